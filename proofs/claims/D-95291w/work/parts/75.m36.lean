/-! THE CLASS: soonest, latest, meeting -/
set_option maxRecDepth 100000
theorem nb_t {b : Bool} (h : (!b) = false) : b = true := by cases b <;> first | rfl | cases h
theorem nb_f {b : Bool} (h : (!b) = true) : b = false := by cases b <;> first | rfl | cases h
theorem JX.xr {x : XT} {S : ST} {herd : Bool} {k : Nat} {f : Nat → Int32} (h : JX x S herd) (hl : S.2.2.1.length ≤ 10) (hk : 15 ≤ k) : JX (x.1, va_up x.2.1 k f, x.2.2) S herd := fun r q hq t ht => by
  have := (List.getElem?_eq_some_iff.mp hq).1
  show va_up x.2.1 k f (5 + r) t = _
  rw [va_un (by omega)]
  exact h r q hq t ht
theorem cp_le {t : Nat} : cp t ≤ 2001 := by
  unfold cp
  split <;> omega
theorem cp_b {t b : Nat} (hb : b ≤ 2000) : cp t ≤ b ↔ t ≤ b := by
  unfold cp
  split <;> omega
theorem cp_9 {t : Nat} : cp t = 2001 ↔ 2000 < t := by
  unfold cp
  split <;> omega
theorem cp_s {t : Nat} (h : ¬ 2000 < t) : cp t = t := if_neg h
/-- an hour, or the reference's never -/
def Vd (v : Nat) : Prop := v ≤ 2000 ∨ v = 9999
theorem cp_lt {a b : Nat} (ha : Vd a) (hb : Vd b) : cp a < cp b ↔ a < b := by
  unfold cp
  rcases ha with ha | ha <;> rcases hb with hb | hb <;> (split <;> split <;> omega)
theorem cp_max {a b : Nat} : cp (max a b) = max (cp a) (cp b) := by
  unfold cp
  split <;> split <;> split <;> omega
theorem Vd.max {a b : Nat} (ha : Vd a) (hb : Vd b) : Vd (max a b) := by
  unfold Vd at *
  omega
theorem Vd.rlx {ms : List Mo} {q : Rd} {tk a b : Nat} {T : Nat → Nat} (h : ∀ x, Vd (T x)) : ∀ x, Vd (rlx ms q tk a b T x) := fun x => by
  by_cases h2 : 2000 < T a
  · rw [rlx_9 h2]
    exact h x
  · rcases e : stt ms q tk (T a) with _ | s
    · rw [rlx_n h2 e]
      exact h x
    · rw [rlx_s h2 e]
      have := stt_le (show T a ≤ 2000 by omega) e
      split
      · unfold upN
        split
        · exact Or.inl this.2
        · exact h x
      · exact h x
theorem Vd.bfR {ms : List Mo} {herd : Bool} : ∀ (l : List Rd) (T : Nat → Nat), (∀ x, Vd (T x)) → ∀ x, Vd (bfR ms herd l T x)
  | [], T, h => h
  | q :: l, T, h => Vd.bfR l (rlq ms herd q T) (Vd.rlx (Vd.rlx h))
theorem Vd.bfN {ms : List Mo} {herd : Bool} {rs : List Rd} : ∀ (j : Nat) (T : Nat → Nat), (∀ x, Vd (T x)) → ∀ x, Vd (bfN ms herd rs j T x)
  | 0, T, h => h
  | j + 1, T, h => Vd.bfN j _ (Vd.bfR rs T h)
theorem bf_vd {isl : Nat} {ms : List Mo} {herd : Bool} {rs : List Rd} {f h x : Nat} (hh : h ≤ 2000) : Vd (bf isl ms herd rs f h x) := Vd.bfN isl _ (fun y => by
  unfold bf0
  split
  · exact Or.inl hh
  · exact Or.inr rfl) x
set_option maxHeartbeats 4000000 in
theorem ev_X0_soonest {w : WE} {A : Hp} {x : XT} {S : ST} {f t hour : Int32} {herd : Bool} (hx : XS w A x S) : EvP w mX0_soonest 6 0 0 [.ref (wb w), .int f, .int t, .int hour, .int (bI herd)] A (some (.int (sp_soonest S f t hour herd))) (fun A' => ∃ x' : XT, XS w A' x' S ∧ Fx w A A') := by
  refine Ev.mk 0 [some (.ref (wb w)), some (.int f), some (.int t), some (.int hour), some (.int (bI herd))] rfl plX0 (Nat.le_of_ble_eq_true rfl) ?_
  have hi6 := hx.le
  refine r_aload_n 1 dX0_soonest_0 rfl rfl lo0 ?_
  refine r_iload_n 2 dX0_soonest_1 rfl rfl lo1 ?_
  refine r_cV1 5 dX0_soonest_2 rfl sV_X0_142_0 hx.t (by rfl) (ev_X0_noIsland hx) ?_
  refine r_if_neB 16 8 dX0_soonest_5 rfl (by decide) (fun hc5 => ?_) (fun hc5 => ?_)
  · refine r_iconst 17 dX0_soonest_16 rfl ic_m1 ?_
    exact r_iret dX0_soonest_17 rfl (Nat.le_refl _) (Nat.le_refl _) ⟨rq (by unfold sp_soonest; rw [if_pos (by first | exact Or.inl (by rw [nb_f hc5]; decide) | exact Or.inr (by rw [nb_f hc13]; decide))]), x, hx, Fx.rf⟩
  · refine r_aload_n 9 dX0_soonest_8 rfl rfl lo0 ?_
    refine r_iload_n 10 dX0_soonest_9 rfl rfl lo2 ?_
    refine r_cV1 13 dX0_soonest_10 rfl sV_X0_142_0 hx.t (by rfl) (ev_X0_noIsland hx) ?_
    refine r_if_eqB 18 16 dX0_soonest_13 rfl (by decide) (fun hc13 => ?_) (fun hc13 => ?_)
    · refine r_iload_n 19 dX0_soonest_18 rfl rfl lo3 ?_
      refine r_cS1 22 dX0_soonest_19 rfl sS_X0_125 (by rfl) ev_X0_isHour ?_
      refine r_if_neB 28 25 dX0_soonest_22 rfl (by decide) (fun hc22 => ?_) (fun hc22 => ?_)
      · replace hc5 := nb_t hc5
        replace hc13 := nb_t hc13
        obtain ⟨f, hf0, rfl⟩ := isI_nat hc5 hi6
        obtain ⟨t, ht0, rfl⟩ := isI_nat hc13 hi6
        obtain ⟨h, hh, rfl⟩ := hr_ok hc22
        refine r_aload_n 29 dX0_soonest_28 rfl rfl lo0 ?_
        refine r_iload 31 dX0_soonest_29 rfl lo4 ?_
        refine rx_V1v 34 dX0_soonest_31 rfl sV_X0_209_0 hx.t (by rfl) (ev_X0_layAll (herd := herd) hx) (fun A hP => ?_)
        obtain ⟨x1, hx, hF, e1, e2, e3, hlv, hJ⟩ := hP
        refine r_aload_n 35 dX0_soonest_34 rfl rfl lo0 ?_
        refine r_iload_n 36 dX0_soonest_35 rfl rfl lo1 ?_
        refine r_iload_n 37 dX0_soonest_36 rfl rfl lo3 ?_
        refine r_iload 39 dX0_soonest_37 rfl lo4 ?_
        refine rx_V3v 42 dX0_soonest_39 rfl sV_X0_213_0 hx.t (by rfl) (ev_X0_go (herd := herd) (f := f) (h := h) hx hJ (by omega) (by omega)) (fun A hP => ?_)
        obtain ⟨g, hx, hF2, hg⟩ := hP
        have hF := hF.tr hF2
        have hb := bf_le (isl := S.1) (ms := S.2.1) (herd := herd) (rs := S.2.2.1) (f := f) (x := t) (show h ≤ 2000 by omega)
        refine r_aload_n 43 dX0_soonest_42 rfl rfl lo0 ?_
        refine r_get 46 dX0_soonest_43 rfl g_X0_40_0 hx.t lo6 ?_
        refine r_iload_n 47 dX0_soonest_46 rfl rfl lo2 ?_
        refine r_ialdv 48 dX0_soonest_47 rfl hx.a15 _ rfl (show g t = _ from hg t ht0) (by omega) (by decide) ?_
        refine r_cS1 51 dX0_soonest_48 rfl sS_X0_217 (by rfl) (ev_X0_told (by omega)) ?_
        exact r_iret dX0_soonest_51 rfl (Nat.le_refl _) (Nat.le_refl _) ⟨rq (by unfold sp_soonest; rw [if_neg (fun h => h.elim (fun a => a hc5) (fun a => a hc13)), if_neg (fun h => h hc22), nI_nat (j := f) (by omega), nI_nat (j := h) (by omega), nI_nat (j := t) (by omega)]), _, hx, hF⟩
      · refine r_bipush 27 dX0_soonest_25 rfl bi_m2 ?_
        exact r_iret dX0_soonest_27 rfl (Nat.le_refl _) (Nat.le_refl _) ⟨rq (by unfold sp_soonest; rw [if_neg (fun h => h.elim (fun a => a (nb_t hc5)) (fun a => a (nb_t hc13))), if_pos (by rw [hc22]; decide)]), x, hx, Fx.rf⟩
    · refine r_iconst 17 dX0_soonest_16 rfl ic_m1 ?_
      exact r_iret dX0_soonest_17 rfl (Nat.le_refl _) (Nat.le_refl _) ⟨rq (by unfold sp_soonest; rw [if_pos (by first | exact Or.inl (by rw [nb_f hc5]; decide) | exact Or.inr (by rw [nb_f hc13]; decide))]), x, hx, Fx.rf⟩

set_option maxHeartbeats 4000000 in
theorem lp_X0_latest {w : WE} {A0 : Hp} {S : ST} {herd : Bool} {f t b : Nat} {r : Int32} (hf0 : f < S.1) (ht0 : t < S.1) (hb : b ≤ 2000) : ∀ (j lo hi : Nat) (A : Hp) (x : XT) (x7 : Option Value), hi ≤ lo + j → lo ≤ hi → hi ≤ 2000 → (r = let z := bsr (fun h => decide (bfS S herd f h t ≤ b)) j lo hi; if z = 0 then -9 else nI (z - 1)) → XS w A x S → JX x S herd → Fx w A0 A → Rn w mX0_latest (rmX 6 0 0) (ZX w (fun v A' => v = (some (.int r)) ∧ (fun A' => ∃ x' : XT, XS w A' x' S ∧ Fx w A0 A') A') 0 0) 0 0 A 47 [some (.ref (wb w)), some (.int (nI f)), some (.int (nI t)), some (.int (nI b)), some (.int (bI herd)), some (.int (nI lo + Int32.ofInt (-1))), some (.int (nI hi)), x7] [] := by
  intro j
  induction j with
  | zero =>
    intro lo hi A x x7 h1 h2 h3 hr hx hJ hF
    have e : hi = lo := by omega
    subst e
    have hr : r = if hi = 0 then -9 else nI (hi - 1) := hr
    refine r_iload 49 dX0_latest_47 rfl lo6 ?_
    refine r_iload 51 dX0_latest_49 rfl lo5 ?_
    refine r_isub 52 dX0_latest_51 rfl ?_
    refine r_iconst 53 dX0_latest_52 rfl ic_1 ?_
    refine r_icmp_le 98 56 dX0_latest_53 rfl (by decide) (fun hc53 => ?_) (fun hc53 => ?_)
    · refine r_iload 100 dX0_latest_98 rfl lo5 ?_
      refine r_if_ge 108 103 dX0_latest_100 rfl (by decide) (fun hc100 => ?_) (fun hc100 => ?_)
      · refine r_iload 110 dX0_latest_108 rfl lo5 ?_
        exact r_iret dX0_latest_110 rfl (Nat.le_refl _) (Nat.le_refl _) ⟨rq (by first | (have hx := lt_end (by omega) hr hc100; exact hx) | (have hx := lt_end2 (by omega) hr hc100; exact hx)), x, hx, hF⟩
      · refine r_bipush 105 dX0_latest_103 rfl bi_m9 ?_
        refine r_goto 110 dX0_latest_105 (by decide) ?_
        exact r_iret dX0_latest_110 rfl (Nat.le_refl _) (Nat.le_refl _) ⟨rq (by first | (have hx := lt_end (by omega) hr hc100; exact hx) | (have hx := lt_end2 (by omega) hr hc100; exact hx)), x, hx, hF⟩
    · exact absurd ((lh_le (by omega) (by omega)).mpr (Nat.le_refl _)) hc53
  | succ j ih =>
    intro lo hi A x x7 h1 h2 h3 hr hx hJ hF
    have hl10 := hx.ok.2.2.2.1
    have hi6 := hx.le
    refine r_iload 49 dX0_latest_47 rfl lo6 ?_
    refine r_iload 51 dX0_latest_49 rfl lo5 ?_
    refine r_isub 52 dX0_latest_51 rfl ?_
    refine r_iconst 53 dX0_latest_52 rfl ic_1 ?_
    refine r_icmp_le 98 56 dX0_latest_53 rfl (by decide) (fun hc53 => ?_) (fun hc53 => ?_)
    · have hlo : hi ≤ lo := (lh_le (by omega) (by omega)).mp hc53
      have hr : r = if lo = 0 then -9 else nI (lo - 1) := by rw [hr, bsr_e (by omega)]
      refine r_iload 100 dX0_latest_98 rfl lo5 ?_
      refine r_if_ge 108 103 dX0_latest_100 rfl (by decide) (fun hc100 => ?_) (fun hc100 => ?_)
      · refine r_iload 110 dX0_latest_108 rfl lo5 ?_
        exact r_iret dX0_latest_110 rfl (Nat.le_refl _) (Nat.le_refl _) ⟨rq (by first | (have hx := lt_end (by omega) hr hc100; exact hx) | (have hx := lt_end2 (by omega) hr hc100; exact hx)), x, hx, hF⟩
      · refine r_bipush 105 dX0_latest_103 rfl bi_m9 ?_
        refine r_goto 110 dX0_latest_105 (by decide) ?_
        exact r_iret dX0_latest_110 rfl (Nat.le_refl _) (Nat.le_refl _) ⟨rq (by first | (have hx := lt_end (by omega) hr hc100; exact hx) | (have hx := lt_end2 (by omega) hr hc100; exact hx)), x, hx, hF⟩
    · have hlo : lo < hi := by have : ¬ hi ≤ lo := fun h => hc53 ((lh_le (by omega) (by omega)).mpr h); omega
      refine r_iload 58 dX0_latest_56 rfl lo5 ?_
      refine r_iload 60 dX0_latest_58 rfl lo6 ?_
      refine r_iadd 61 dX0_latest_60 rfl ?_
      refine r_top (congrArg Value.int (lh_sum (a := lo) (b := hi) (by omega) (by omega) (by omega))) ?_
      refine r_iconst 62 dX0_latest_61 rfl ic_2 ?_
      first | refine r_idivN 63 dX0_latest_62 rfl (by omega) (by omega) (by omega) ?_ | refine r_idiv 63 dX0_latest_62 rfl (by assumption) ?_
      refine r_istore 65 dX0_latest_63 rfl so7 rfl ?_
      refine r_aload_n 66 dX0_latest_65 rfl rfl lo0 ?_
      refine r_iload_n 67 dX0_latest_66 rfl rfl lo1 ?_
      refine r_iload 69 dX0_latest_67 rfl lo7 ?_
      refine r_iload 71 dX0_latest_69 rfl lo4 ?_
      refine rx_V3v 74 dX0_latest_71 rfl sV_X0_213_0 hx.t (by rfl) (ev_X0_go (herd := herd) (f := f) (h := (lo + hi - 1) / 2) hx hJ (by omega) (by omega)) (fun A hP => ?_)
      obtain ⟨g, hx, hF2, hg⟩ := hP
      have hF := hF.tr hF2
      have hcl := cp_le (t := bfS S herd f ((lo + hi - 1) / 2) t)
      refine r_aload_n 75 dX0_latest_74 rfl rfl lo0 ?_
      refine r_get 78 dX0_latest_75 rfl g_X0_40_0 hx.t lo6 ?_
      refine r_iload_n 79 dX0_latest_78 rfl rfl lo2 ?_
      refine r_ialdv 80 dX0_latest_79 rfl hx.a15 _ rfl (show g t = _ from hg t ht0) (by omega) (by decide) ?_
      refine r_iload_n 81 dX0_latest_80 rfl rfl lo3 ?_
      first | refine r_icmp_gtN 91 84 dX0_latest_81 rfl (by decide) (by omega) (by omega) (fun hc81 => ?_) (fun hc81 => ?_) | refine r_icmp_gt 91 84 dX0_latest_81 rfl (by decide) (fun hc81 => ?_) (fun hc81 => ?_)
      · refine r_iload 93 dX0_latest_91 rfl lo7 ?_
        refine r_istore 95 dX0_latest_93 rfl so6 rfl ?_
        refine r_goto 47 dX0_latest_95 (by decide) ?_
        first
          | (have hd : cp (bfS S herd f ((lo + hi - 1) / 2) t) ≤ b := hc81
             rw [show nI ((lo + hi - 1) / 2) = nI ((lo + hi - 1) / 2 + 1) + Int32.ofInt (-1) from incm1.symm]
             exact ih ((lo + hi - 1) / 2 + 1) hi A _ _ (by omega) (by omega) h3 (by rw [hr, bsr_t hlo (decide_eq_true ((cp_b hb).mp hc81))]) hx (hJ.xr hl10 (by decide)) hF)
          | (have hd : b < cp (bfS S herd f ((lo + hi - 1) / 2) t) := hc81
             exact ih lo ((lo + hi - 1) / 2) A _ _ (by omega) (by omega) (by omega) (by rw [hr, bsr_f hlo (decide_eq_false (fun z => Nat.not_le.mpr hc81 ((cp_b hb).mpr z)))]) hx (hJ.xr hl10 (by decide)) hF)
      · refine r_iload 86 dX0_latest_84 rfl lo7 ?_
        refine r_istore 88 dX0_latest_86 rfl so5 rfl ?_
        refine r_goto 95 dX0_latest_88 (by decide) ?_
        refine r_goto 47 dX0_latest_95 (by decide) ?_
        first
          | (have hd : cp (bfS S herd f ((lo + hi - 1) / 2) t) ≤ b := hc81
             rw [show nI ((lo + hi - 1) / 2) = nI ((lo + hi - 1) / 2 + 1) + Int32.ofInt (-1) from incm1.symm]
             exact ih ((lo + hi - 1) / 2 + 1) hi A _ _ (by omega) (by omega) h3 (by rw [hr, bsr_t hlo (decide_eq_true ((cp_b hb).mp hc81))]) hx (hJ.xr hl10 (by decide)) hF)
          | (have hd : b < cp (bfS S herd f ((lo + hi - 1) / 2) t) := hc81
             exact ih lo ((lo + hi - 1) / 2) A _ _ (by omega) (by omega) (by omega) (by rw [hr, bsr_f hlo (decide_eq_false (fun z => Nat.not_le.mpr hc81 ((cp_b hb).mpr z)))]) hx (hJ.xr hl10 (by decide)) hF)

set_option maxHeartbeats 4000000 in
theorem ev_X0_latest {w : WE} {A : Hp} {x : XT} {S : ST} {f t b : Int32} {herd : Bool} (hx : XS w A x S) : EvP w mX0_latest 6 0 0 [.ref (wb w), .int f, .int t, .int b, .int (bI herd)] A (some (.int (sp_latest S f t b herd))) (fun A' => ∃ x' : XT, XS w A' x' S ∧ Fx w A A') := by
  refine Ev.mk 3 [some (.ref (wb w)), some (.int f), some (.int t), some (.int b), some (.int (bI herd)), none, none, none] rfl plX0 (Nat.le_of_ble_eq_true rfl) ?_
  have hi6 := hx.le
  refine r_aload_n 1 dX0_latest_0 rfl rfl lo0 ?_
  refine r_iload_n 2 dX0_latest_1 rfl rfl lo1 ?_
  refine r_cV1 5 dX0_latest_2 rfl sV_X0_142_0 hx.t (by rfl) (ev_X0_noIsland hx) ?_
  refine r_if_neB 16 8 dX0_latest_5 rfl (by decide) (fun hc5 => ?_) (fun hc5 => ?_)
  · refine r_iconst 17 dX0_latest_16 rfl ic_m1 ?_
    exact r_iret dX0_latest_17 rfl (Nat.le_refl _) (Nat.le_refl _) ⟨rq (by unfold sp_latest; rw [if_pos (by first | exact Or.inl (by rw [nb_f hc5]; decide) | exact Or.inr (by rw [nb_f hc13]; decide))]), x, hx, Fx.rf⟩
  · refine r_aload_n 9 dX0_latest_8 rfl rfl lo0 ?_
    refine r_iload_n 10 dX0_latest_9 rfl rfl lo2 ?_
    refine r_cV1 13 dX0_latest_10 rfl sV_X0_142_0 hx.t (by rfl) (ev_X0_noIsland hx) ?_
    refine r_if_eqB 18 16 dX0_latest_13 rfl (by decide) (fun hc13 => ?_) (fun hc13 => ?_)
    · refine r_iload_n 19 dX0_latest_18 rfl rfl lo3 ?_
      refine r_i2l 20 dX0_latest_19 rfl rfl ?_
      refine r_lconst 21 dX0_latest_20 rfl lc_0 ?_
      refine r_ldc2 24 dX0_latest_21 rfl q460 ?_
      refine r_cS3 27 dX0_latest_24 rfl sS_X0_11 (by rfl) (ev_X0_in _ 0 2000 (Int32.toInt_toInt64 _) (by decide) (by decide)) ?_
      refine r_if_neB 33 30 dX0_latest_27 rfl (by decide) (fun hc27 => ?_) (fun hc27 => ?_)
      · replace hc5 := nb_t hc5
        replace hc13 := nb_t hc13
        obtain ⟨f, hf0, rfl⟩ := isI_nat hc5 hi6
        obtain ⟨t, ht0, rfl⟩ := isI_nat hc13 hi6
        obtain ⟨b, b1, b2, rfl⟩ := btw_nat hc27 (by decide) (by decide)
        refine r_aload_n 34 dX0_latest_33 rfl rfl lo0 ?_
        refine r_iload 36 dX0_latest_34 rfl lo4 ?_
        refine rx_V1v 39 dX0_latest_36 rfl sV_X0_209_0 hx.t (by rfl) (ev_X0_layAll (herd := herd) hx) (fun A hP => ?_)
        obtain ⟨x1, hx, hF, e1, e2, e3, hlv, hJ⟩ := hP
        refine r_iconst 40 dX0_latest_39 rfl ic_m1 ?_
        refine r_istore 42 dX0_latest_40 rfl so5 rfl ?_
        refine r_sipush 45 dX0_latest_42 rfl si_2000 ?_
        refine r_istore 47 dX0_latest_45 rfl so6 rfl ?_
        have e : sp_latest S (nI f) (nI t) (nI b) herd = (let z := bsr (fun h => decide (bfS S herd f h t ≤ b)) 2000 0 2000; if z = 0 then -9 else nI (z - 1)) := by
          unfold sp_latest
          rw [if_neg (fun h => h.elim (fun a => a hc5) (fun a => a hc13)), if_neg (fun h => h hc27), nI_nat (j := f) (by omega), nI_nat (j := t) (by omega), nI_nat (j := b) (by omega)]
        rw [e, show (-1 : Int32) = nI 0 + Int32.ofInt (-1) by decide]
        exact lp_X0_latest hf0 ht0 (by omega) 2000 0 2000 A x1 none (by omega) (by omega) (by omega) rfl hx hJ hF
      · refine r_bipush 32 dX0_latest_30 rfl bi_m2 ?_
        exact r_iret dX0_latest_32 rfl (Nat.le_refl _) (Nat.le_refl _) ⟨rq (by unfold sp_latest; rw [if_neg (fun h => h.elim (fun a => a (nb_t hc5)) (fun a => a (nb_t hc13))), if_pos (by rw [hc27]; decide)]), x, hx, Fx.rf⟩
    · refine r_iconst 17 dX0_latest_16 rfl ic_m1 ?_
      exact r_iret dX0_latest_17 rfl (Nat.le_refl _) (Nat.le_refl _) ⟨rq (by unfold sp_latest; rw [if_pos (by first | exact Or.inl (by rw [nb_f hc5]; decide) | exact Or.inr (by rw [nb_f hc13]; decide))]), x, hx, Fx.rf⟩

set_option maxHeartbeats 4000000 in
theorem la_X0_meeting {w : WE} {A0 : Hp} {S : ST} {set what : Int32} {h : Nat} {r : Int32} {M : Nat → Nat} {A : Hp} {x : XT} (hx : XS w A x S) (hV : ∀ z, Vd (M z)) (hM : (∀ z, z < S.1 → x.2.1 19 z = nI (cp (M z)))) (hF : Fx w A0 A) : ∀ (j z b : Nat), z + j = S.1 → b < S.1 → (r = let b := amin M j z b; if 2000 < M b then -9 else if what.toInt = 0 then nI (M b) else nI b) → Rn w mX0_meeting (rmX 6 0 0) (ZX w (fun v A' => v = (some (.int r)) ∧ (fun A' => ∃ x' : XT, XS w A' x' S ∧ Fx w A0 A') A') 0 0) 0 0 A 152 [some (.ref (wb w)), some (.int set), some (.int (nI h)), some (.int what), some (.int (nI b)), some (.int (nI z))] [] := by
  have hi6 := hx.le
  intro j
  induction j with
  | zero =>
    intro z b hzj hb hr
    have hr : r = if 2000 < M b then -9 else if what.toInt = 0 then nI (M b) else nI b := hr
    have e1 := hM b hb
    have e2 := cp_le (t := M b)
    refine r_iload 154 dX0_meeting_152 rfl lo5 ?_
    refine r_aload_n 155 dX0_meeting_154 rfl rfl lo0 ?_
    refine r_getv 158 dX0_meeting_155 rfl g_X0_61_0 hx.t lo0 hx.il ?_
    first | refine r_icmp_geN 193 161 dX0_meeting_158 rfl (by decide) (by omega) (by omega) (fun hc158 => ?_) (fun hc158 => ?_) | refine r_icmp_ge 193 161 dX0_meeting_158 rfl (by decide) (fun hc158 => ?_) (fun hc158 => ?_)
    · refine r_aload_n 194 dX0_meeting_193 rfl rfl lo0 ?_
      refine r_get 197 dX0_meeting_194 rfl g_X0_52_0 hx.t lo11 ?_
      refine r_iload 199 dX0_meeting_197 rfl lo4 ?_
      refine r_ialdv 200 dX0_meeting_199 rfl hx.a19 _ rfl e1 (by omega) (by decide) ?_
      refine r_sipush 203 dX0_meeting_200 rfl si_2001 ?_
      first | refine r_icmp_neN 211 206 dX0_meeting_203 rfl (by decide) (by omega) (by omega) (fun hc203 => ?_) (fun hc203 => ?_) | refine r_icmp_ne 211 206 dX0_meeting_203 rfl (by decide) (fun hc203 => ?_) (fun hc203 => ?_)
      · refine r_iload_n 212 dX0_meeting_211 rfl rfl lo3 ?_
        refine r_if_ne 225 215 dX0_meeting_212 rfl (by decide) (fun hc212 => ?_) (fun hc212 => ?_)
        · refine r_iload 227 dX0_meeting_225 rfl lo4 ?_
          exact r_iret dX0_meeting_227 rfl (Nat.le_refl _) (Nat.le_refl _) ⟨rq (by rw [hr]; first | rw [if_pos (cp_9.mp hc203)] | (rw [if_neg (fun q => hc203 (cp_9.mpr q))]; first | (rw [if_pos (show what.toInt = 0 from i_eq.mp hc212), cp_s (fun q => hc203 (cp_9.mpr q))]) | rw [if_neg (show ¬ what.toInt = 0 from fun e => hc212 (i_eq.mpr e))])), x, hx, hF⟩
        · refine r_aload_n 216 dX0_meeting_215 rfl rfl lo0 ?_
          refine r_get 219 dX0_meeting_216 rfl g_X0_52_0 hx.t lo11 ?_
          refine r_iload 221 dX0_meeting_219 rfl lo4 ?_
          refine r_ialdv 222 dX0_meeting_221 rfl hx.a19 _ rfl e1 (by omega) (by decide) ?_
          refine r_goto 227 dX0_meeting_222 (by decide) ?_
          exact r_iret dX0_meeting_227 rfl (Nat.le_refl _) (Nat.le_refl _) ⟨rq (by rw [hr]; first | rw [if_pos (cp_9.mp hc203)] | (rw [if_neg (fun q => hc203 (cp_9.mpr q))]; first | (rw [if_pos (show what.toInt = 0 from i_eq.mp hc212), cp_s (fun q => hc203 (cp_9.mpr q))]) | rw [if_neg (show ¬ what.toInt = 0 from fun e => hc212 (i_eq.mpr e))])), x, hx, hF⟩
      · refine r_bipush 208 dX0_meeting_206 rfl bi_m9 ?_
        refine r_goto 227 dX0_meeting_208 (by decide) ?_
        exact r_iret dX0_meeting_227 rfl (Nat.le_refl _) (Nat.le_refl _) ⟨rq (by rw [hr]; first | rw [if_pos (cp_9.mp hc203)] | (rw [if_neg (fun q => hc203 (cp_9.mpr q))]; first | (rw [if_pos (show what.toInt = 0 from i_eq.mp hc212), cp_s (fun q => hc203 (cp_9.mpr q))]) | rw [if_neg (show ¬ what.toInt = 0 from fun e => hc212 (i_eq.mpr e))])), x, hx, hF⟩
    · exact absurd hc158 (by omega)
  | succ j ih =>
    intro z b hzj hb hr
    have e1 := hM b hb
    have e2 := cp_le (t := M b)
    have e3 := hM z (by omega)
    have e4 := cp_le (t := M z)
    refine r_iload 154 dX0_meeting_152 rfl lo5 ?_
    refine r_aload_n 155 dX0_meeting_154 rfl rfl lo0 ?_
    refine r_getv 158 dX0_meeting_155 rfl g_X0_61_0 hx.t lo0 hx.il ?_
    first | refine r_icmp_geN 193 161 dX0_meeting_158 rfl (by decide) (by omega) (by omega) (fun hc158 => ?_) (fun hc158 => ?_) | refine r_icmp_ge 193 161 dX0_meeting_158 rfl (by decide) (fun hc158 => ?_) (fun hc158 => ?_)
    · exact absurd hc158 (by omega)
    · refine r_aload_n 162 dX0_meeting_161 rfl rfl lo0 ?_
      refine r_get 165 dX0_meeting_162 rfl g_X0_52_0 hx.t lo11 ?_
      refine r_iload 167 dX0_meeting_165 rfl lo5 ?_
      refine r_ialdv 168 dX0_meeting_167 rfl hx.a19 _ rfl e3 (by omega) (by decide) ?_
      refine r_aload_n 169 dX0_meeting_168 rfl rfl lo0 ?_
      refine r_get 172 dX0_meeting_169 rfl g_X0_52_0 hx.t lo11 ?_
      refine r_iload 174 dX0_meeting_172 rfl lo4 ?_
      refine r_ialdv 175 dX0_meeting_174 rfl hx.a19 _ rfl e1 (by omega) (by decide) ?_
      first | refine r_icmp_geN 183 178 dX0_meeting_175 rfl (by decide) (by omega) (by omega) (fun hc175 => ?_) (fun hc175 => ?_) | refine r_icmp_ge 183 178 dX0_meeting_175 rfl (by decide) (fun hc175 => ?_) (fun hc175 => ?_)
      · refine r_iload 185 dX0_meeting_183 rfl lo4 ?_
        refine r_istore 187 dX0_meeting_185 rfl so4 rfl ?_
        refine r_iinc 190 dX0_meeting_187 rfl lo5 inc1 so5 rfl ?_
        refine r_goto 152 dX0_meeting_190 (by decide) ?_
        first | (have hd : cp (M z) < cp (M b) := hc175; exact ih (z + 1) z (by omega) (by omega) (by rw [hr, amin_t ((cp_lt (hV z) (hV b)).mp hd)])) | (have hd : cp (M b) ≤ cp (M z) := hc175; exact ih (z + 1) b (by omega) hb (by rw [hr, amin_f (fun q => Nat.not_lt.mpr hd ((cp_lt (hV z) (hV b)).mpr q))]))
      · refine r_iload 180 dX0_meeting_178 rfl lo5 ?_
        refine r_goto 185 dX0_meeting_180 (by decide) ?_
        refine r_istore 187 dX0_meeting_185 rfl so4 rfl ?_
        refine r_iinc 190 dX0_meeting_187 rfl lo5 inc1 so5 rfl ?_
        refine r_goto 152 dX0_meeting_190 (by decide) ?_
        first | (have hd : cp (M z) < cp (M b) := hc175; exact ih (z + 1) z (by omega) (by omega) (by rw [hr, amin_t ((cp_lt (hV z) (hV b)).mp hd)])) | (have hd : cp (M b) ≤ cp (M z) := hc175; exact ih (z + 1) b (by omega) hb (by rw [hr, amin_f (fun q => Nat.not_lt.mpr hd ((cp_lt (hV z) (hV b)).mpr q))]))

set_option maxHeartbeats 4000000 in
theorem li_X0_meeting {w : WE} {A0 : Hp} {S : ST} {set what : Int32} {h : Nat} {Z : ZT} {fr : Nat} {M T : Nat → Nat} (hl10 : S.2.2.1.length ≤ 10) (K : ∀ (A : Hp) (x : XT) (x5 : Option Value), JX x S false → (∀ z, z < S.1 → x.2.1 19 z = nI (cp (max (M z) (T z)))) → XS w A x S → Fx w A0 A → Rn w mX0_meeting (rmX 6 0 0) Z 0 0 A 140 [some (.ref (wb w)), some (.int set), some (.int (nI h)), some (.int what), some (.int (nI fr)), x5] []) : ∀ (j i : Nat) (A : Hp) (x : XT), i + j = S.1 → JX x S false → (∀ z, z < S.1 → x.2.1 15 z = nI (cp (T z))) → (∀ z, z < S.1 → x.2.1 19 z = nI (cp (if z < i then max (M z) (T z) else M z))) → XS w A x S → Fx w A0 A → Rn w mX0_meeting (rmX 6 0 0) Z 0 0 A 101 [some (.ref (wb w)), some (.int set), some (.int (nI h)), some (.int what), some (.int (nI fr)), some (.int (nI i))] [] := by
  intro j
  induction j with
  | zero =>
    intro i A x hij hJ hT hm hx hF
    have hi6 := hx.le
    refine r_iload 103 dX0_meeting_101 rfl lo5 ?_
    refine r_aload_n 104 dX0_meeting_103 rfl rfl lo0 ?_
    refine r_getv 107 dX0_meeting_104 rfl g_X0_61_0 hx.t lo0 hx.il ?_
    first | refine r_icmp_geN 140 110 dX0_meeting_107 rfl (by decide) (by omega) (by omega) (fun hc107 => ?_) (fun hc107 => ?_) | refine r_icmp_ge 140 110 dX0_meeting_107 rfl (by decide) (fun hc107 => ?_) (fun hc107 => ?_)
    · exact K A x _ hJ (fun z hz => by rw [hm z hz, if_pos (by omega)]) hx hF
    · exact absurd hc107 (by omega)
  | succ j ih =>
    intro i A x hij hJ hT hm hx hF
    have hi6 := hx.le
    have t1 := hT i (by omega)
    have t2 := cp_le (t := T i)
    have u1 := hm i (by omega)
    rw [if_neg (by omega)] at u1
    have u2 := cp_le (t := M i)
    refine r_iload 103 dX0_meeting_101 rfl lo5 ?_
    refine r_aload_n 104 dX0_meeting_103 rfl rfl lo0 ?_
    refine r_getv 107 dX0_meeting_104 rfl g_X0_61_0 hx.t lo0 hx.il ?_
    first | refine r_icmp_geN 140 110 dX0_meeting_107 rfl (by decide) (by omega) (by omega) (fun hc107 => ?_) (fun hc107 => ?_) | refine r_icmp_ge 140 110 dX0_meeting_107 rfl (by decide) (fun hc107 => ?_) (fun hc107 => ?_)
    · exact absurd hc107 (by omega)
    · refine r_aload_n 111 dX0_meeting_110 rfl rfl lo0 ?_
      refine r_get 114 dX0_meeting_111 rfl g_X0_52_0 hx.t lo11 ?_
      refine r_iload 116 dX0_meeting_114 rfl lo5 ?_
      refine r_aload_n 117 dX0_meeting_116 rfl rfl lo0 ?_
      refine r_get 120 dX0_meeting_117 rfl g_X0_52_0 hx.t lo11 ?_
      refine r_iload 122 dX0_meeting_120 rfl lo5 ?_
      refine r_ialdv 123 dX0_meeting_122 rfl hx.a19 _ rfl u1 (by omega) (by decide) ?_
      refine r_aload_n 124 dX0_meeting_123 rfl rfl lo0 ?_
      refine r_get 127 dX0_meeting_124 rfl g_X0_40_0 hx.t lo6 ?_
      refine r_iload 129 dX0_meeting_127 rfl lo5 ?_
      refine r_ialdv 130 dX0_meeting_129 rfl hx.a15 _ rfl t1 (by omega) (by decide) ?_
      refine r_mmaxN 133 dX0_meeting_130 rfl q540 (by rfl) (by omega) (by omega) ?_
      refine rx_iast (kk := 19) (N := 6) 134 dX0_meeting_133 rfl hx hF (Or.inr (by decide)) _ rfl rfl (by omega) (by decide) (fun A hx hF => ?_)
      refine r_iinc 137 dX0_meeting_134 rfl lo5 inc1 so5 rfl ?_
      refine r_goto 101 dX0_meeting_137 (by decide) ?_
      have hih := fun a b c => ih (i + 1) A _ (by omega) a b c hx hF
      refine hih (hJ.xr hl10 (by decide)) hT (fun z hz => ?_)
      show upd (x.2.1 19) i _ z = _
      by_cases e : z = i
      · subst e
        rw [upd_s, if_pos (by omega), cp_max]
      · rw [upd_n e, hm z hz]
        by_cases h : z < i
        · rw [if_pos h, if_pos (by omega)]
        · rw [if_neg h, if_neg (by omega)]

set_option maxHeartbeats 4000000 in
theorem lo_X0_meeting {w : WE} {A0 : Hp} {S : ST} {set what : Int32} {h : Nat} {r : Int32} (hh : h ≤ 1999) (hs1 : 0 < S.1) : ∀ (j fr : Nat) (A : Hp) (x : XT) (M : Nat → Nat) (x5 : Option Value), fr + j = S.1 → JX x S false → (∀ z, Vd (M z)) → (∀ z, z < S.1 → x.2.1 19 z = nI (cp (M z))) → (r = let M := mxs (fun fr x => bfS S false fr h x) set j fr M; let b := amin M (S.1 - 1) 1 0; if 2000 < M b then -9 else if what.toInt = 0 then nI (M b) else nI b) → XS w A x S → Fx w A0 A → Rn w mX0_meeting (rmX 6 0 0) (ZX w (fun v A' => v = (some (.int r)) ∧ (fun A' => ∃ x' : XT, XS w A' x' S ∧ Fx w A0 A') A') 0 0) 0 0 A 72 [some (.ref (wb w)), some (.int set), some (.int (nI h)), some (.int what), some (.int (nI fr)), x5] [] := by
  intro j
  induction j with
  | zero =>
    intro fr A x M x5 hfj hJ hV hM hr hx hF
    have hi6 := hx.le
    refine r_iload 74 dX0_meeting_72 rfl lo4 ?_
    refine r_aload_n 75 dX0_meeting_74 rfl rfl lo0 ?_
    refine r_getv 78 dX0_meeting_75 rfl g_X0_61_0 hx.t lo0 hx.il ?_
    first | refine r_icmp_geN 146 81 dX0_meeting_78 rfl (by decide) (by omega) (by omega) (fun hc78 => ?_) (fun hc78 => ?_) | refine r_icmp_ge 146 81 dX0_meeting_78 rfl (by decide) (fun hc78 => ?_) (fun hc78 => ?_)
    · refine r_iconst 147 dX0_meeting_146 rfl ic_0 ?_
      refine r_istore 149 dX0_meeting_147 rfl so4 rfl ?_
      refine r_iconst 150 dX0_meeting_149 rfl ic_1 ?_
      refine r_istore 152 dX0_meeting_150 rfl so5 rfl ?_
      exact la_X0_meeting hx hV hM hF (S.1 - 1) 1 0 (by omega) hs1 hr
    · exact absurd hc78 (by omega)
  | succ j ih =>
    intro fr A x M x5 hfj hJ hV hM hr hx hF
    have hi6 := hx.le
    have hl10 := hx.ok.2.2.2.1
    refine r_iload 74 dX0_meeting_72 rfl lo4 ?_
    refine r_aload_n 75 dX0_meeting_74 rfl rfl lo0 ?_
    refine r_getv 78 dX0_meeting_75 rfl g_X0_61_0 hx.t lo0 hx.il ?_
    first | refine r_icmp_geN 146 81 dX0_meeting_78 rfl (by decide) (by omega) (by omega) (fun hc78 => ?_) (fun hc78 => ?_) | refine r_icmp_ge 146 81 dX0_meeting_78 rfl (by decide) (fun hc78 => ?_) (fun hc78 => ?_)
    · exact absurd hc78 (by omega)
    · refine r_iload_n 82 dX0_meeting_81 rfl rfl lo1 ?_
      refine r_iload 84 dX0_meeting_82 rfl lo4 ?_
      refine r_cS2 87 dX0_meeting_84 rfl sS_X0_195 (by rfl) ev_X0_isIn ?_
      refine r_if_eqB 140 90 dX0_meeting_87 rfl (by decide) (fun hc87 => ?_) (fun hc87 => ?_)
      · refine r_iinc 143 dX0_meeting_140 rfl lo4 inc1 so4 rfl ?_
        refine r_goto 72 dX0_meeting_143 (by decide) ?_
        exact ih (fr + 1) A x M _ (by omega) hJ hV hM (by rw [hr, mxs_f hc87]) hx hF
      · refine r_aload_n 91 dX0_meeting_90 rfl rfl lo0 ?_
        refine r_iload 93 dX0_meeting_91 rfl lo4 ?_
        refine r_iload_n 94 dX0_meeting_93 rfl rfl lo2 ?_
        refine r_iconst 95 dX0_meeting_94 rfl ic_0 ?_
        refine rx_V3v 98 dX0_meeting_95 rfl sV_X0_213_0 hx.t (by rfl) (ev_X0_go (herd := false) (f := fr) (h := h) hx hJ (by omega) (by omega)) (fun A hP => ?_)
        obtain ⟨g, hx, hF2, hg⟩ := hP
        have hF := hF.tr hF2
        refine r_iconst 99 dX0_meeting_98 rfl ic_0 ?_
        refine r_istore 101 dX0_meeting_99 rfl so5 rfl ?_
        refine li_X0_meeting (M := M) (T := fun x => bfS S false fr h x) hl10 (fun A y x5 hJ hm hx hF => ?_) S.1 0 A (xr x 15 g) (by omega) (hJ.xr hl10 (by decide)) hg (fun z hz => by rw [if_neg (by omega)]; exact hM z hz) hx hF
        refine r_iinc 143 dX0_meeting_140 rfl lo4 inc1 so4 rfl ?_
        refine r_goto 72 dX0_meeting_143 (by decide) ?_
        exact ih (fr + 1) A y _ _ (by omega) hJ (fun z => (hV z).max (bf_vd (by omega))) hm (by rw [hr, mxs_t hc87]) hx hF

set_option maxHeartbeats 4000000 in
theorem l0_X0_meeting {w : WE} {A0 : Hp} {S : ST} {set what : Int32} {h : Nat} {r : Int32} {x5 : Option Value} (hh : h ≤ 1999) (hs1 : 0 < S.1) (hr : r = let M := mxs (fun fr x => bfS S false fr h x) set S.1 0 (fun _ => 0); let b := amin M (S.1 - 1) 1 0; if 2000 < M b then -9 else if what.toInt = 0 then nI (M b) else nI b) : ∀ (j i : Nat) (A : Hp) (x : XT), i + j = S.1 → JX x S false → (∀ z, z < i → x.2.1 19 z = nI 0) → XS w A x S → Fx w A0 A → Rn w mX0_meeting (rmX 6 0 0) (ZX w (fun v A' => v = (some (.int r)) ∧ (fun A' => ∃ x' : XT, XS w A' x' S ∧ Fx w A0 A') A') 0 0) 0 0 A 46 [some (.ref (wb w)), some (.int set), some (.int (nI h)), some (.int what), some (.int (nI i)), x5] [] := by
  intro j
  induction j with
  | zero =>
    intro i A x hij hJ hz hx hF
    have hi6 := hx.le
    refine r_iload 48 dX0_meeting_46 rfl lo4 ?_
    refine r_aload_n 49 dX0_meeting_48 rfl rfl lo0 ?_
    refine r_getv 52 dX0_meeting_49 rfl g_X0_61_0 hx.t lo0 hx.il ?_
    first | refine r_icmp_geN 69 55 dX0_meeting_52 rfl (by decide) (by omega) (by omega) (fun hc52 => ?_) (fun hc52 => ?_) | refine r_icmp_ge 69 55 dX0_meeting_52 rfl (by decide) (fun hc52 => ?_) (fun hc52 => ?_)
    · refine r_iconst 70 dX0_meeting_69 rfl ic_0 ?_
      refine r_istore 72 dX0_meeting_70 rfl so4 rfl ?_
      exact lo_X0_meeting hh hs1 S.1 0 A x (fun _ => 0) _ (by omega) hJ (fun _ => Or.inl (Nat.zero_le _)) (fun z hz2 => hz z (by omega)) hr hx hF
    · exact absurd hc52 (by omega)
  | succ j ih =>
    intro i A x hij hJ hz hx hF
    have hi6 := hx.le
    have hl10 := hx.ok.2.2.2.1
    refine r_iload 48 dX0_meeting_46 rfl lo4 ?_
    refine r_aload_n 49 dX0_meeting_48 rfl rfl lo0 ?_
    refine r_getv 52 dX0_meeting_49 rfl g_X0_61_0 hx.t lo0 hx.il ?_
    first | refine r_icmp_geN 69 55 dX0_meeting_52 rfl (by decide) (by omega) (by omega) (fun hc52 => ?_) (fun hc52 => ?_) | refine r_icmp_ge 69 55 dX0_meeting_52 rfl (by decide) (fun hc52 => ?_) (fun hc52 => ?_)
    · exact absurd hc52 (by omega)
    · refine r_aload_n 56 dX0_meeting_55 rfl rfl lo0 ?_
      refine r_get 59 dX0_meeting_56 rfl g_X0_52_0 hx.t lo11 ?_
      refine r_iload 61 dX0_meeting_59 rfl lo4 ?_
      refine r_iconst 62 dX0_meeting_61 rfl ic_0 ?_
      refine rx_iast (kk := 19) (N := 6) 63 dX0_meeting_62 rfl hx hF (Or.inr (by decide)) _ rfl rfl (by omega) (by decide) (fun A hx hF => ?_)
      refine r_iinc 66 dX0_meeting_63 rfl lo4 inc1 so4 rfl ?_
      refine r_goto 46 dX0_meeting_66 (by decide) ?_
      refine ih (i + 1) A _ (by omega) (hJ.xr hl10 (by decide)) (fun z hz2 => ?_) hx hF
      show upd (x.2.1 19) i _ z = _
      by_cases e : z = i
      · subst e
        exact upd_s
      · rw [upd_n e]
        exact hz z (by omega)

theorem shl6m : ∀ k, k ≤ 6 → (nI 1 <<< (nI k &&& 31) - nI 1).toInt = 2 ^ k - 1 := by decide
set_option maxHeartbeats 4000000 in
theorem ev_X0_meeting {w : WE} {A : Hp} {x : XT} {S : ST} {set hour what : Int32} (hx : XS w A x S) : EvP w mX0_meeting 6 0 0 [.ref (wb w), .int set, .int hour, .int what] A (some (.int (sp_meeting S set hour what))) (fun A' => ∃ x' : XT, XS w A' x' S ∧ Fx w A A') := by
  refine Ev.mk 2 [some (.ref (wb w)), some (.int set), some (.int hour), some (.int what), none, none] rfl plX0 (Nat.le_of_ble_eq_true rfl) ?_
  have hi6 := hx.le
  refine r_iload_n 1 dX0_meeting_0 rfl rfl lo1 ?_
  refine r_i2l 2 dX0_meeting_1 rfl rfl ?_
  refine r_lconst 3 dX0_meeting_2 rfl lc_1 ?_
  refine r_iconst 4 dX0_meeting_3 rfl ic_1 ?_
  refine r_aload_n 5 dX0_meeting_4 rfl rfl lo0 ?_
  refine r_getv 8 dX0_meeting_5 rfl g_X0_61_0 hx.t lo0 hx.il ?_
  refine r_ishl 9 dX0_meeting_8 rfl ?_
  refine r_iconst 10 dX0_meeting_9 rfl ic_1 ?_
  refine r_isub 11 dX0_meeting_10 rfl ?_
  refine r_i2l 12 dX0_meeting_11 rfl rfl ?_
  refine r_cS3 15 dX0_meeting_12 rfl sS_X0_11 (by rfl) (ev_X0_in set.toInt 1 (2 ^ S.1 - 1) (Int32.toInt_toInt64 _) (by decide) (by rw [Int32.toInt_toInt64]; exact shl6m S.1 hi6)) ?_
  refine r_if_eqB 35 18 dX0_meeting_15 rfl (by decide) (fun hc15 => ?_) (fun hc15 => ?_)
  · refine r_bipush 37 dX0_meeting_35 rfl bi_m2 ?_
    exact r_iret dX0_meeting_37 rfl (Nat.le_refl _) (Nat.le_refl _) ⟨rq (by unfold sp_meeting; rw [if_pos (by first | exact Or.inl (by rw [hc15]; decide) | exact Or.inr (Or.inl (by rw [hc22]; decide)) | exact Or.inr (Or.inr (by rw [hc32]; decide)))]), x, hx, Fx.rf⟩
  · refine r_iload_n 19 dX0_meeting_18 rfl rfl lo2 ?_
    refine r_cS1 22 dX0_meeting_19 rfl sS_X0_125 (by rfl) ev_X0_isHour ?_
    refine r_if_eqB 35 25 dX0_meeting_22 rfl (by decide) (fun hc22 => ?_) (fun hc22 => ?_)
    · refine r_bipush 37 dX0_meeting_35 rfl bi_m2 ?_
      exact r_iret dX0_meeting_37 rfl (Nat.le_refl _) (Nat.le_refl _) ⟨rq (by unfold sp_meeting; rw [if_pos (by first | exact Or.inl (by rw [hc15]; decide) | exact Or.inr (Or.inl (by rw [hc22]; decide)) | exact Or.inr (Or.inr (by rw [hc32]; decide)))]), x, hx, Fx.rf⟩
    · refine r_iload_n 26 dX0_meeting_25 rfl rfl lo3 ?_
      refine r_i2l 27 dX0_meeting_26 rfl rfl ?_
      refine r_lconst 28 dX0_meeting_27 rfl lc_0 ?_
      refine r_lconst 29 dX0_meeting_28 rfl lc_1 ?_
      refine r_cS3 32 dX0_meeting_29 rfl sS_X0_11 (by rfl) (ev_X0_in what.toInt 0 1 (Int32.toInt_toInt64 _) (by decide) (by decide)) ?_
      refine r_if_neB 38 35 dX0_meeting_32 rfl (by decide) (fun hc32 => ?_) (fun hc32 => ?_)
      · obtain ⟨h, hh, rfl⟩ := hr_ok hc22
        have hs1 : 0 < S.1 := by
          rcases Nat.eq_zero_or_pos S.1 with e | e
          · rw [e] at hc15
            have := btw_t.mp hc15
            exact absurd this (by simp; omega)
          · exact e
        refine r_aload_n 39 dX0_meeting_38 rfl rfl lo0 ?_
        refine r_iconst 40 dX0_meeting_39 rfl ic_0 ?_
        refine rx_V1v 43 dX0_meeting_40 rfl sV_X0_209_0 hx.t (by rfl) (ev_X0_layAll (herd := false) hx) (fun A hP => ?_)
        obtain ⟨x1, hx, hF, e1, e2, e3, hlv, hJ⟩ := hP
        refine r_iconst 44 dX0_meeting_43 rfl ic_0 ?_
        refine r_istore 46 dX0_meeting_44 rfl so4 rfl ?_
        have e : sp_meeting S set (nI h) what = (let M := mxs (fun fr x => bfS S false fr h x) set S.1 0 (fun _ => 0); let b := amin M (S.1 - 1) 1 0; if 2000 < M b then -9 else if what.toInt = 0 then nI (M b) else nI b) := by
          unfold sp_meeting
          rw [if_neg (fun z => z.elim (fun a => a hc15) (fun z => z.elim (fun a => a hc22) (fun a => a hc32))), nI_nat (j := h) (by omega)]
        rw [e]
        exact l0_X0_meeting (by omega) hs1 rfl S.1 0 A x1 (by omega) hJ (fun z hz => absurd hz (by omega)) hx hF
      · refine r_bipush 37 dX0_meeting_35 rfl bi_m2 ?_
        exact r_iret dX0_meeting_37 rfl (Nat.le_refl _) (Nat.le_refl _) ⟨rq (by unfold sp_meeting; rw [if_pos (by first | exact Or.inl (by rw [hc15]; decide) | exact Or.inr (Or.inl (by rw [hc22]; decide)) | exact Or.inr (Or.inr (by rw [hc32]; decide)))]), x, hx, Fx.rf⟩

