/-! THE CLASS: firstFalse, monthsOf; what looks at cells is made -/
set_option maxRecDepth 100000
set_option maxHeartbeats 4000000 in
theorem lp_X0_firstFalse {w : WE} {A : Hp} {x : XT} {S : ST} {h a N : Nat} {c : Nat → Int32} {r : Int32} (hx : XS w A x S) (hA : A.1 a = some (eI w 0 N c)) (hN : N ≤ 60) (hh : h + N ≤ 2000) : ∀ (j t : Nat), t + j = N → r = fd (fun t => !decide (c t = nI (lvl S.2.1 (h + t)))) j t → Rn w mX0_firstFalse (rmX 4 0 0) (ZX w (QV (.int r) A) 0 0) 0 0 A 25 [some (.ref (wb w)), some (.int (nI h)), some (.ref a), some (.int (nI t))] [] := by
  intro j
  induction j with
  | zero =>
    intro t htj hr
    refine r_iload_n 26 dX0_firstFalse_25 rfl rfl lo3 ?_
    refine r_aload_n 27 dX0_firstFalse_26 rfl rfl lo2 ?_
    refine r_alen (t := 0) 28 dX0_firstFalse_27 rfl rfl hA ?_
    first | refine r_icmp_geN 52 31 dX0_firstFalse_28 rfl (by decide) (by omega) (by omega) (fun hc28 => ?_) (fun hc28 => ?_) | refine r_icmp_ge 52 31 dX0_firstFalse_28 rfl (by decide) (fun hc28 => ?_) (fun hc28 => ?_)
    · refine r_bipush 54 dX0_firstFalse_52 rfl bi_m9 ?_
      exact r_iret dX0_firstFalse_54 rfl (Nat.le_refl _) (Nat.le_refl _) (rv (by rw [hr]; rfl))
    · exact absurd hc28 (by omega)
  | succ j ih =>
    intro t htj hr
    have hl := hx.lvl (h + t)
    refine r_iload_n 26 dX0_firstFalse_25 rfl rfl lo3 ?_
    refine r_aload_n 27 dX0_firstFalse_26 rfl rfl lo2 ?_
    refine r_alen (t := 0) 28 dX0_firstFalse_27 rfl rfl hA ?_
    first | refine r_icmp_geN 52 31 dX0_firstFalse_28 rfl (by decide) (by omega) (by omega) (fun hc28 => ?_) (fun hc28 => ?_) | refine r_icmp_ge 52 31 dX0_firstFalse_28 rfl (by decide) (fun hc28 => ?_) (fun hc28 => ?_)
    · exact absurd hc28 (by omega)
    · refine r_aload_n 32 dX0_firstFalse_31 rfl rfl lo2 ?_
      refine r_iload_n 33 dX0_firstFalse_32 rfl rfl lo3 ?_
      refine r_iald 34 dX0_firstFalse_33 rfl hA _ rfl (by omega) (by omega) ?_
      refine r_aload_n 35 dX0_firstFalse_34 rfl rfl lo0 ?_
      refine r_iload_n 36 dX0_firstFalse_35 rfl rfl lo1 ?_
      refine r_iload_n 37 dX0_firstFalse_36 rfl rfl lo3 ?_
      first | refine r_iaddN 38 dX0_firstFalse_37 rfl ?_ | refine r_iadd 38 dX0_firstFalse_37 rfl ?_
      refine r_cV1 41 dX0_firstFalse_38 rfl sV_X0_135_0 hx.t (by rfl) (ev_X0_levelIn hx (by omega)) ?_
      refine r_icmp_eq 46 44 dX0_firstFalse_41 rfl (by decide) (fun hc41 => ?_) (fun hc41 => ?_)
      · refine r_iinc 49 dX0_firstFalse_46 rfl lo3 inc1 so3 rfl ?_
        refine r_goto 25 dX0_firstFalse_49 (by decide) ?_
        exact ih (t + 1) (by omega) (by rw [hr]; conv => lhs; unfold fd; rw [if_neg (by simp [hc41])])
      · refine r_iload_n 45 dX0_firstFalse_44 rfl rfl lo3 ?_
        exact r_iret dX0_firstFalse_45 rfl (Nat.le_refl _) (Nat.le_refl _) (rv (by rw [hr]; unfold fd; rw [if_pos (by simp [hc41])]))

set_option maxHeartbeats 4000000 in
theorem ev_X0_firstFalse {w : WE} {A : Hp} {x : XT} {S : ST} {h a N : Nat} {c : Nat → Int32} (hx : XS w A x S) (hA : A.1 a = some (eI w 0 N c)) (hN : N ≤ 60) (hh : h ≤ 1999) : EvI w mX0_firstFalse 4 [.ref (wb w), .int (nI h), .ref a] A (if S.1 = 0 then -3 else if 2000 < h + N then -2 else fd (fun t => !decide (c t = nI (lvl S.2.1 (h + t)))) N 0) := by
  refine Ev.mk 1 [some (.ref (wb w)), some (.int (nI h)), some (.ref a), none] rfl plX0 (Nat.le_of_ble_eq_true rfl) ?_
  have hi6 := hx.le
  refine r_aload_n 1 dX0_firstFalse_0 rfl rfl lo0 ?_
  refine r_getv 4 dX0_firstFalse_1 rfl g_X0_61_0 hx.t lo0 hx.il ?_
  first | refine r_if_neN 10 7 dX0_firstFalse_4 rfl (by decide) (by omega) (fun hc4 => ?_) (fun hc4 => ?_) | refine r_if_ne 10 7 dX0_firstFalse_4 rfl (by decide) (fun hc4 => ?_) (fun hc4 => ?_)
  · refine r_iload_n 11 dX0_firstFalse_10 rfl rfl lo1 ?_
    refine r_aload_n 12 dX0_firstFalse_11 rfl rfl lo2 ?_
    refine r_alen (t := 0) 13 dX0_firstFalse_12 rfl rfl hA ?_
    first | refine r_iaddN 14 dX0_firstFalse_13 rfl ?_ | refine r_iadd 14 dX0_firstFalse_13 rfl ?_
    refine r_sipush 17 dX0_firstFalse_14 rfl si_2000 ?_
    first | refine r_icmp_leN 23 20 dX0_firstFalse_17 rfl (by decide) (by omega) (by omega) (fun hc17 => ?_) (fun hc17 => ?_) | refine r_icmp_le 23 20 dX0_firstFalse_17 rfl (by decide) (fun hc17 => ?_) (fun hc17 => ?_)
    · refine r_iconst 24 dX0_firstFalse_23 rfl ic_0 ?_
      refine r_istore_n 25 dX0_firstFalse_24 rfl rfl so3 rfl ?_
      exact lp_X0_firstFalse hx hA hN (by omega) N 0 (by omega) (by rw [if_neg (by omega), if_neg (by omega)])
    · refine r_bipush 22 dX0_firstFalse_20 rfl bi_m2 ?_
      exact r_iret dX0_firstFalse_22 rfl (Nat.le_refl _) (Nat.le_refl _) (rv (by rw [if_neg (by omega), if_pos (by omega)]))
  · refine r_bipush 9 dX0_firstFalse_7 rfl bi_m3 ?_
    exact r_iret dX0_firstFalse_9 rfl (Nat.le_refl _) (Nat.le_refl _) (rv (by rw [if_pos (by omega)]))

theorem allb_T {p : Nat → Bool} {j t : Nat} (h : p t = true) : allb p (j + 1) t = allb p j (t + 1) := if_pos h
theorem allb_F {p : Nat → Bool} {j t : Nat} (h : p t = false) : allb p (j + 1) t = false := if_neg (by rw [h]; decide)
theorem bI_a1 {b : Bool} : bI b &&& nI 1 = bI (b && true) := by cases b <;> rfl
theorem bI_a0 {b : Bool} : bI b &&& nI 0 = bI (b && false) := by cases b <;> rfl
set_option maxHeartbeats 4000000 in
theorem lt_X0_monthsOf {w : WE} {A : Hp} {a N : Nat} {c : Nat → Int32} {r : Int32} {b : Nat} {s : Int32} (hA : A.1 a = some (eI w 0 N c)) (hN : N ≤ 60) (hb : 2 ≤ b) (hb2 : b ≤ 30) (K : ∀ (ff : Bool) (x4 : Option Value), ff = allb (fun t => remz (c t - c 0) (nI b)) (N - 1) 1 → Rn w mX0_monthsOf (rmX 2 0 0) (ZX w (QV (.int r) A) 0 0) 0 0 A 90 [some (.ref a), some (.int s), some (.int (nI b)), some (.int (bI ff)), x4] []) : ∀ (j t : Nat) (ff : Bool), 1 ≤ t → (t + j = N ∨ (j = 0 ∧ N ≤ t ∧ t ≤ 1)) → (ff && allb (fun t => remz (c t - c 0) (nI b)) j t) = allb (fun t => remz (c t - c 0) (nI b)) (N - 1) 1 → Rn w mX0_monthsOf (rmX 2 0 0) (ZX w (QV (.int r) A) 0 0) 0 0 A 56 [some (.ref a), some (.int s), some (.int (nI b)), some (.int (bI ff)), some (.int (nI t))] [] := by
  intro j
  induction j with
  | zero =>
    intro t ff h1 htj hr
    refine r_iload 58 dX0_monthsOf_56 rfl lo4 ?_
    refine r_aload_n 59 dX0_monthsOf_58 rfl rfl lo0 ?_
    refine r_alen (t := 0) 60 dX0_monthsOf_59 rfl rfl hA ?_
    first | refine r_icmp_geN 90 63 dX0_monthsOf_60 rfl (by decide) (by omega) (by omega) (fun hc60 => ?_) (fun hc60 => ?_) | refine r_icmp_ge 90 63 dX0_monthsOf_60 rfl (by decide) (fun hc60 => ?_) (fun hc60 => ?_)
    · exact K ff _ (by rw [← hr]; exact (Bool.and_true _).symm)
    · exact absurd hc60 (by omega)
  | succ j ih =>
    intro t ff h1 htj hr
    have hb0 : ¬ nI b = 0 := nI_ne0 (by omega) (by omega)
    refine r_iload 58 dX0_monthsOf_56 rfl lo4 ?_
    refine r_aload_n 59 dX0_monthsOf_58 rfl rfl lo0 ?_
    refine r_alen (t := 0) 60 dX0_monthsOf_59 rfl rfl hA ?_
    first | refine r_icmp_geN 90 63 dX0_monthsOf_60 rfl (by decide) (by omega) (by omega) (fun hc60 => ?_) (fun hc60 => ?_) | refine r_icmp_ge 90 63 dX0_monthsOf_60 rfl (by decide) (fun hc60 => ?_) (fun hc60 => ?_)
    · exact absurd hc60 (by omega)
    · refine r_iload_n 64 dX0_monthsOf_63 rfl rfl lo3 ?_
      refine r_aload_n 65 dX0_monthsOf_64 rfl rfl lo0 ?_
      refine r_iload 67 dX0_monthsOf_65 rfl lo4 ?_
      refine r_iald 68 dX0_monthsOf_67 rfl hA _ rfl (by omega) (by omega) ?_
      refine r_aload_n 69 dX0_monthsOf_68 rfl rfl lo0 ?_
      refine r_iconst 70 dX0_monthsOf_69 rfl ic_0 ?_
      refine r_iald 71 dX0_monthsOf_70 rfl hA _ rfl (by omega) (by omega) ?_
      refine r_isub 72 dX0_monthsOf_71 rfl ?_
      refine r_iload_n 73 dX0_monthsOf_72 rfl rfl lo2 ?_
      refine r_irem 74 dX0_monthsOf_73 rfl (by assumption) ?_
      refine r_if_ne 81 77 dX0_monthsOf_74 rfl (by decide) (fun hc74 => ?_) (fun hc74 => ?_)
      · refine r_iconst 82 dX0_monthsOf_81 rfl ic_0 ?_
        refine r_iand 83 dX0_monthsOf_82 rfl ?_
        first | rw [bI_a1] | rw [bI_a0]
        refine r_istore_n 84 dX0_monthsOf_83 rfl rfl so3 rfl ?_
        refine r_iinc 87 dX0_monthsOf_84 rfl lo4 inc1 so4 rfl ?_
        refine r_goto 56 dX0_monthsOf_87 (by decide) ?_
        first
          | exact ih (t + 1) (ff && true) (by omega) (by omega) (by rw [← hr, allb_T (p := (fun t => remz (c t - c 0) (nI b))) (decide_eq_true hc74), Bool.and_true])
          | exact ih (t + 1) (ff && false) (by omega) (by omega) (by rw [← hr, allb_F (p := (fun t => remz (c t - c 0) (nI b))) (decide_eq_false hc74), Bool.and_false, Bool.false_and])
      · refine r_iconst 78 dX0_monthsOf_77 rfl ic_1 ?_
        refine r_goto 82 dX0_monthsOf_78 (by decide) ?_
        refine r_iand 83 dX0_monthsOf_82 rfl ?_
        first | rw [bI_a1] | rw [bI_a0]
        refine r_istore_n 84 dX0_monthsOf_83 rfl rfl so3 rfl ?_
        refine r_iinc 87 dX0_monthsOf_84 rfl lo4 inc1 so4 rfl ?_
        refine r_goto 56 dX0_monthsOf_87 (by decide) ?_
        first
          | exact ih (t + 1) (ff && true) (by omega) (by omega) (by rw [← hr, allb_T (p := (fun t => remz (c t - c 0) (nI b))) (decide_eq_true hc74), Bool.and_true])
          | exact ih (t + 1) (ff && false) (by omega) (by omega) (by rw [← hr, allb_F (p := (fun t => remz (c t - c 0) (nI b))) (decide_eq_false hc74), Bool.and_false, Bool.false_and])

set_option maxHeartbeats 4000000 in
theorem lm_X0_monthsOf {w : WE} {A : Hp} {a N : Nat} {c : Nat → Int32} {r : Int32} (hA : A.1 a = some (eI w 0 N c)) (hN : N ≤ 60) : ∀ (j b : Nat) (s : Int32) (x3 x4 : Option Value), b + j = 31 → 2 ≤ b → r = bset (fun b => allb (fun t => remz (c t - c 0) (nI b)) (N - 1) 1) j b s → Rn w mX0_monthsOf (rmX 2 0 0) (ZX w (QV (.int r) A) 0 0) 0 0 A 45 [some (.ref a), some (.int s), some (.int (nI b)), x3, x4] [] := by
  intro j
  induction j with
  | zero =>
    intro b s x3 x4 hbj hb hr
    refine r_iload_n 46 dX0_monthsOf_45 rfl rfl lo2 ?_
    refine r_bipush 48 dX0_monthsOf_46 rfl bi_30 ?_
    first | refine r_icmp_gtN 112 51 dX0_monthsOf_48 rfl (by decide) (by omega) (by omega) (fun hc48 => ?_) (fun hc48 => ?_) | refine r_icmp_gt 112 51 dX0_monthsOf_48 rfl (by decide) (fun hc48 => ?_) (fun hc48 => ?_)
    · refine r_iload_n 113 dX0_monthsOf_112 rfl rfl lo1 ?_
      exact r_iret dX0_monthsOf_113 rfl (Nat.le_refl _) (Nat.le_refl _) (rv (by rw [hr]; rfl))
    · exact absurd hc48 (by omega)
  | succ j ih =>
    intro b s x3 x4 hbj hb hr
    refine r_iload_n 46 dX0_monthsOf_45 rfl rfl lo2 ?_
    refine r_bipush 48 dX0_monthsOf_46 rfl bi_30 ?_
    first | refine r_icmp_gtN 112 51 dX0_monthsOf_48 rfl (by decide) (by omega) (by omega) (fun hc48 => ?_) (fun hc48 => ?_) | refine r_icmp_gt 112 51 dX0_monthsOf_48 rfl (by decide) (fun hc48 => ?_) (fun hc48 => ?_)
    · exact absurd hc48 (by omega)
    · refine r_iconst 52 dX0_monthsOf_51 rfl ic_1 ?_
      refine r_istore_n 53 dX0_monthsOf_52 rfl rfl so3 rfl ?_
      refine r_iconst 54 dX0_monthsOf_53 rfl ic_1 ?_
      refine r_istore 56 dX0_monthsOf_54 rfl so4 rfl ?_
      refine lt_X0_monthsOf (b := b) (s := s) hA hN hb (by omega) (fun ff x4 hff => ?_) (N - 1) 1 true (by omega) (by omega) (Bool.true_and _)
      refine r_iload_n 91 dX0_monthsOf_90 rfl rfl lo1 ?_
      refine r_iload_n 92 dX0_monthsOf_91 rfl rfl lo3 ?_
      refine r_if_eqB 103 95 dX0_monthsOf_92 rfl (by decide) (fun hc92 => ?_) (fun hc92 => ?_)
      · refine r_iconst 104 dX0_monthsOf_103 rfl ic_0 ?_
        refine r_ior 105 dX0_monthsOf_104 rfl ?_
        refine r_istore_n 106 dX0_monthsOf_105 rfl rfl so1 rfl ?_
        refine r_iinc 109 dX0_monthsOf_106 rfl lo2 inc1 so2 rfl ?_
        refine r_goto 45 dX0_monthsOf_109 (by decide) ?_
        first
          | exact ih (b + 1) _ _ _ (by omega) (by omega) (by rw [hr]; conv => lhs; unfold bset; rw [if_pos (hff.symm.trans hc92)])
          | exact ih (b + 1) _ _ _ (by omega) (by omega) (by rw [hr]; conv => lhs; unfold bset; rw [if_neg (by rw [← hff, hc92]; decide)])
      · refine r_iconst 96 dX0_monthsOf_95 rfl ic_1 ?_
        refine r_iload_n 97 dX0_monthsOf_96 rfl rfl lo2 ?_
        refine r_iconst 98 dX0_monthsOf_97 rfl ic_2 ?_
        first | refine r_isubN 99 dX0_monthsOf_98 rfl (by omega) ?_ | refine r_isub 99 dX0_monthsOf_98 rfl ?_
        refine r_ishl 100 dX0_monthsOf_99 rfl ?_
        refine r_goto 104 dX0_monthsOf_100 (by decide) ?_
        refine r_ior 105 dX0_monthsOf_104 rfl ?_
        refine r_istore_n 106 dX0_monthsOf_105 rfl rfl so1 rfl ?_
        refine r_iinc 109 dX0_monthsOf_106 rfl lo2 inc1 so2 rfl ?_
        refine r_goto 45 dX0_monthsOf_109 (by decide) ?_
        first
          | exact ih (b + 1) _ _ _ (by omega) (by omega) (by rw [hr]; conv => lhs; unfold bset; rw [if_pos (hff.symm.trans hc92)])
          | exact ih (b + 1) _ _ _ (by omega) (by omega) (by rw [hr]; conv => lhs; unfold bset; rw [if_neg (by rw [← hff, hc92]; decide)])

set_option maxHeartbeats 4000000 in
theorem lp_X0_monthsOf {w : WE} {A : Hp} {a N : Nat} {c : Nat → Int32} {r : Int32} {x2 x3 x4 : Option Value} (hA : A.1 a = some (eI w 0 N c)) (hN : N ≤ 60) : ∀ (j t : Nat), t + j = N → r = (if anyb (bad c) j t = true then -2 else bset (fun b => allb (fun t => remz (c t - c 0) (nI b)) (N - 1) 1) 29 2 (nI 0)) → Rn w mX0_monthsOf (rmX 2 0 0) (ZX w (QV (.int r) A) 0 0) 0 0 A 2 [some (.ref a), some (.int (nI t)), x2, x3, x4] [] := by
  intro j
  induction j with
  | zero =>
    intro t htj hr
    refine r_iload_n 3 dX0_monthsOf_2 rfl rfl lo1 ?_
    refine r_aload_n 4 dX0_monthsOf_3 rfl rfl lo0 ?_
    refine r_alen (t := 0) 5 dX0_monthsOf_4 rfl rfl hA ?_
    first | refine r_icmp_geN 41 8 dX0_monthsOf_5 rfl (by decide) (by omega) (by omega) (fun hc5 => ?_) (fun hc5 => ?_) | refine r_icmp_ge 41 8 dX0_monthsOf_5 rfl (by decide) (fun hc5 => ?_) (fun hc5 => ?_)
    · refine r_iconst 42 dX0_monthsOf_41 rfl ic_0 ?_
      refine r_istore_n 43 dX0_monthsOf_42 rfl rfl so1 rfl ?_
      refine r_iconst 44 dX0_monthsOf_43 rfl ic_2 ?_
      refine r_istore_n 45 dX0_monthsOf_44 rfl rfl so2 rfl ?_
      exact lm_X0_monthsOf hA hN 29 2 (nI 0) _ _ (by omega) (by omega) (by rw [hr]; rfl)
    · exact absurd hc5 (by omega)
  | succ j ih =>
    intro t htj hr
    refine r_iload_n 3 dX0_monthsOf_2 rfl rfl lo1 ?_
    refine r_aload_n 4 dX0_monthsOf_3 rfl rfl lo0 ?_
    refine r_alen (t := 0) 5 dX0_monthsOf_4 rfl rfl hA ?_
    first | refine r_icmp_geN 41 8 dX0_monthsOf_5 rfl (by decide) (by omega) (by omega) (fun hc5 => ?_) (fun hc5 => ?_) | refine r_icmp_ge 41 8 dX0_monthsOf_5 rfl (by decide) (fun hc5 => ?_) (fun hc5 => ?_)
    · exact absurd hc5 (by omega)
    · refine r_aload_n 9 dX0_monthsOf_8 rfl rfl lo0 ?_
      refine r_iload_n 10 dX0_monthsOf_9 rfl rfl lo1 ?_
      refine r_iald 11 dX0_monthsOf_10 rfl hA _ rfl (by omega) (by omega) ?_
      refine r_cS1 14 dX0_monthsOf_11 rfl sS_X0_125 (by rfl) ev_X0_isHour ?_
      refine r_if_eqB 32 17 dX0_monthsOf_14 rfl (by decide) (fun hc14 => ?_) (fun hc14 => ?_)
      · refine r_bipush 34 dX0_monthsOf_32 rfl bi_m2 ?_
        exact r_iret dX0_monthsOf_34 rfl (Nat.le_refl _) (Nat.le_refl _) (rv (by rw [hr, anyb_t (by first | exact bad_1 hc14 | exact bad_2 (by omega) hc29)]; rfl))
      · refine r_iload_n 18 dX0_monthsOf_17 rfl rfl lo1 ?_
        first | refine r_if_leN 35 21 dX0_monthsOf_18 rfl (by decide) (by omega) (fun hc18 => ?_) (fun hc18 => ?_) | refine r_if_le 35 21 dX0_monthsOf_18 rfl (by decide) (fun hc18 => ?_) (fun hc18 => ?_)
        · refine r_iinc 38 dX0_monthsOf_35 rfl lo1 inc1 so1 rfl ?_
          refine r_goto 2 dX0_monthsOf_38 (by decide) ?_
          exact ih (t + 1) (by omega) (by rw [hr, anyb_f (bad_0 hc14 (by first | exact Or.inl hc18 | exact Or.inr hc29))])
        · refine r_aload_n 22 dX0_monthsOf_21 rfl rfl lo0 ?_
          refine r_iload_n 23 dX0_monthsOf_22 rfl rfl lo1 ?_
          refine r_iald 24 dX0_monthsOf_23 rfl hA _ rfl (by omega) (by omega) ?_
          refine r_aload_n 25 dX0_monthsOf_24 rfl rfl lo0 ?_
          refine r_iload_n 26 dX0_monthsOf_25 rfl rfl lo1 ?_
          refine r_iconst 27 dX0_monthsOf_26 rfl ic_1 ?_
          first | refine r_isubN 28 dX0_monthsOf_27 rfl (by omega) ?_ | refine r_isub 28 dX0_monthsOf_27 rfl ?_
          refine r_iald 29 dX0_monthsOf_28 rfl hA _ rfl (by omega) (by omega) ?_
          refine r_icmp_gt 35 32 dX0_monthsOf_29 rfl (by decide) (fun hc29 => ?_) (fun hc29 => ?_)
          · refine r_iinc 38 dX0_monthsOf_35 rfl lo1 inc1 so1 rfl ?_
            refine r_goto 2 dX0_monthsOf_38 (by decide) ?_
            exact ih (t + 1) (by omega) (by rw [hr, anyb_f (bad_0 hc14 (by first | exact Or.inl hc18 | exact Or.inr hc29))])
          · refine r_bipush 34 dX0_monthsOf_32 rfl bi_m2 ?_
            exact r_iret dX0_monthsOf_34 rfl (Nat.le_refl _) (Nat.le_refl _) (rv (by rw [hr, anyb_t (by first | exact bad_1 hc14 | exact bad_2 (by omega) hc29)]; rfl))

set_option maxHeartbeats 4000000 in
theorem ev_X0_monthsOf {w : WE} {A : Hp} {a N : Nat} {c : Nat → Int32} (hA : A.1 a = some (eI w 0 N c)) (hN : N ≤ 60) : EvI w mX0_monthsOf 2 [.ref a] A (if anyb (bad c) N 0 = true then -2 else bset (fun b => allb (fun t => remz (c t - c 0) (nI b)) (N - 1) 1) 29 2 (nI 0)) := by
  refine Ev.mk 4 [some (.ref a), none, none, none, none] rfl plX0 (Nat.le_of_ble_eq_true rfl) ?_
  refine r_iconst 1 dX0_monthsOf_0 rfl ic_0 ?_
  refine r_istore_n 2 dX0_monthsOf_1 rfl rfl so1 rfl ?_
  exact lp_X0_monthsOf hA hN N 0 (by omega) rfl

set_option maxHeartbeats 4000000 in
theorem ev_X2_init_8 {w : WE} {A : Hp} {a b : Nat} {f0 f1 f2 f3 f4 f5 f6 : Value} (hA : A.1 a = some (.inr (8, [f0, f1, f2, f3, f4, f5, f6]))) (hba : wb w ≤ a) : EvP w mX2_init 1 0 0 [.ref a, .ref b] A none (fun A' => A' = hp_up A a (.inr (8, [f0, f1, f2, f3, f4, .ref b, f6]))) := by
  refine Ev.mk 0 [some (.ref a), some (.ref b)] rfl plX2 (Nat.le_of_ble_eq_true rfl) ?_
  refine r_aload_n 1 dX2_init_0 rfl rfl lo0 ?_
  refine r_aload_n 2 dX2_init_1 rfl rfl lo1 ?_
  refine r_putF 5 dX2_init_2 rfl g_X2_3_8 cw_8 fw_8_5 fo_8_5 rfl hA hba so5 (Nat.le_of_ble_eq_true rfl) rfl rfl ?_
  refine r_aload_n 6 dX2_init_5 rfl rfl lo0 ?_
  refine r_objInit 9 dX2_init_6 rfl q764 q89 q90 (by decide) (by decide) ?_
  exact r_vret dX2_init_9 rfl (Nat.le_refl _) (Nat.le_refl _) ⟨rfl, rfl⟩

set_option maxHeartbeats 4000000 in
theorem ev_X2_init_9 {w : WE} {A : Hp} {a b : Nat} {f0 f1 f2 f3 f4 f5 f6 f7 : Value} (hA : A.1 a = some (.inr (9, [f0, f1, f2, f3, f4, f5, f6, f7]))) (hba : wb w ≤ a) : EvP w mX2_init 1 0 0 [.ref a, .ref b] A none (fun A' => A' = hp_up A a (.inr (9, [f0, f1, f2, f3, f4, .ref b, f6, f7]))) := by
  refine Ev.mk 0 [some (.ref a), some (.ref b)] rfl plX2 (Nat.le_of_ble_eq_true rfl) ?_
  refine r_aload_n 1 dX2_init_0 rfl rfl lo0 ?_
  refine r_aload_n 2 dX2_init_1 rfl rfl lo1 ?_
  refine r_putF 5 dX2_init_2 rfl g_X2_3_9 cw_9 fw_9_5 fo_9_5 rfl hA hba so5 (Nat.le_of_ble_eq_true rfl) rfl rfl ?_
  refine r_aload_n 6 dX2_init_5 rfl rfl lo0 ?_
  refine r_objInit 9 dX2_init_6 rfl q764 q89 q90 (by decide) (by decide) ?_
  exact r_vret dX2_init_9 rfl (Nat.le_refl _) (Nat.le_refl _) ⟨rfl, rfl⟩

set_option maxHeartbeats 4000000 in
theorem ev_X2_init_10 {w : WE} {A : Hp} {a b : Nat} {f0 f1 f2 f3 f4 f5 f6 : Value} (hA : A.1 a = some (.inr (10, [f0, f1, f2, f3, f4, f5, f6]))) (hba : wb w ≤ a) : EvP w mX2_init 1 0 0 [.ref a, .ref b] A none (fun A' => A' = hp_up A a (.inr (10, [f0, f1, f2, f3, f4, .ref b, f6]))) := by
  refine Ev.mk 0 [some (.ref a), some (.ref b)] rfl plX2 (Nat.le_of_ble_eq_true rfl) ?_
  refine r_aload_n 1 dX2_init_0 rfl rfl lo0 ?_
  refine r_aload_n 2 dX2_init_1 rfl rfl lo1 ?_
  refine r_putF 5 dX2_init_2 rfl g_X2_3_10 cw_10 fw_10_5 fo_10_5 rfl hA hba so5 (Nat.le_of_ble_eq_true rfl) rfl rfl ?_
  refine r_aload_n 6 dX2_init_5 rfl rfl lo0 ?_
  refine r_objInit 9 dX2_init_6 rfl q764 q89 q90 (by decide) (by decide) ?_
  exact r_vret dX2_init_9 rfl (Nat.le_refl _) (Nat.le_refl _) ⟨rfl, rfl⟩

set_option maxHeartbeats 4000000 in
theorem ev_X2_init_11 {w : WE} {A : Hp} {a b : Nat} {f0 f1 f2 f3 f4 f5 f6 : Value} (hA : A.1 a = some (.inr (11, [f0, f1, f2, f3, f4, f5, f6]))) (hba : wb w ≤ a) : EvP w mX2_init 1 0 0 [.ref a, .ref b] A none (fun A' => A' = hp_up A a (.inr (11, [.ref b, f1, f2, f3, f4, f5, f6]))) := by
  refine Ev.mk 0 [some (.ref a), some (.ref b)] rfl plX2 (Nat.le_of_ble_eq_true rfl) ?_
  refine r_aload_n 1 dX2_init_0 rfl rfl lo0 ?_
  refine r_aload_n 2 dX2_init_1 rfl rfl lo1 ?_
  refine r_putF 5 dX2_init_2 rfl g_X2_3_11 cw_11 fw_11_0 fo_11_0 rfl hA hba so0 (Nat.le_of_ble_eq_true rfl) rfl rfl ?_
  refine r_aload_n 6 dX2_init_5 rfl rfl lo0 ?_
  refine r_objInit 9 dX2_init_6 rfl q764 q89 q90 (by decide) (by decide) ?_
  exact r_vret dX2_init_9 rfl (Nat.le_refl _) (Nat.le_refl _) ⟨rfl, rfl⟩

set_option maxHeartbeats 4000000 in
theorem ev_X3_init_8 {w : WE} {A : Hp} {a b : Nat} {k s i n : Int32} {f0 f1 f2 f3 f4 f5 f6 : Value} (hA : A.1 a = some (.inr (8, [f0, f1, f2, f3, f4, f5, f6]))) (hba : wb w ≤ a) : EvP w mX3_init 2 0 0 [.ref a, .ref b, .int k, .int s, .int i, .int n] A none (fun A' => A'.1 a = some (.inr (8, [.int k, .int s, .int i, .int n, .ref b, .ref b, f6])) ∧ A'.2 = A.2 ∧ ∀ q, q ≠ a → A'.1 q = A.1 q) := by
  refine Ev.mk 0 [some (.ref a), some (.ref b), some (.int k), some (.int s), some (.int i), some (.int n)] rfl plX3 (Nat.le_of_ble_eq_true rfl) ?_
  refine r_aload_n 1 dX3_init_0 rfl rfl lo0 ?_
  refine r_aload_n 2 dX3_init_1 rfl rfl lo1 ?_
  refine r_putF 5 dX3_init_2 rfl g_X3_1_8 cw_8 fw_8_4 fo_8_4 rfl hA hba so4 (Nat.le_of_ble_eq_true rfl) rfl rfl ?_
  refine r_aload_n 6 dX3_init_5 rfl rfl lo0 ?_
  refine r_aload_n 7 dX3_init_6 rfl rfl lo1 ?_
  refine rx_NI1v 10 dX3_init_7 rfl sNI_X3_7 (by rfl) (ev_X2_init_8 hp_up_s hba) (fun A4 hP => ?_)
  subst hP
  refine r_aload_n 11 dX3_init_10 rfl rfl lo0 ?_
  refine r_iload_n 12 dX3_init_11 rfl rfl lo2 ?_
  refine r_putF 15 dX3_init_12 rfl g_X3_13_8 cw_8 fw_8_0 fo_8_0 rfl hp_up_s hba so0 (Nat.le_of_ble_eq_true rfl) rfl rfl ?_
  refine r_aload_n 16 dX3_init_15 rfl rfl lo0 ?_
  refine r_iload_n 17 dX3_init_16 rfl rfl lo3 ?_
  refine r_putF 20 dX3_init_17 rfl g_X3_17_8 cw_8 fw_8_1 fo_8_1 rfl hp_up_s hba so1 (Nat.le_of_ble_eq_true rfl) rfl rfl ?_
  refine r_aload_n 21 dX3_init_20 rfl rfl lo0 ?_
  refine r_iload 23 dX3_init_21 rfl lo4 ?_
  refine r_putF 26 dX3_init_23 rfl g_X3_20_8 cw_8 fw_8_2 fo_8_2 rfl hp_up_s hba so2 (Nat.le_of_ble_eq_true rfl) rfl rfl ?_
  refine r_aload_n 27 dX3_init_26 rfl rfl lo0 ?_
  refine r_iload 29 dX3_init_27 rfl lo5 ?_
  refine r_putF 32 dX3_init_29 rfl g_X3_23_8 cw_8 fw_8_3 fo_8_3 rfl hp_up_s hba so3 (Nat.le_of_ble_eq_true rfl) rfl rfl ?_
  exact r_vret dX3_init_32 rfl (Nat.le_refl _) (Nat.le_refl _) ⟨rfl, hp_up_s, rfl, fun q hq => (hp_up_n hq).trans ((hp_up_n hq).trans ((hp_up_n hq).trans ((hp_up_n hq).trans ((hp_up_n hq).trans (hp_up_n hq)))))⟩

set_option maxHeartbeats 4000000 in
theorem ev_X3_init_9 {w : WE} {A : Hp} {a b : Nat} {k s i n : Int32} {f0 f1 f2 f3 f4 f5 f6 f7 : Value} (hA : A.1 a = some (.inr (9, [f0, f1, f2, f3, f4, f5, f6, f7]))) (hba : wb w ≤ a) : EvP w mX3_init 2 0 0 [.ref a, .ref b, .int k, .int s, .int i, .int n] A none (fun A' => A'.1 a = some (.inr (9, [.int k, .int s, .int i, .int n, .ref b, .ref b, f6, f7])) ∧ A'.2 = A.2 ∧ ∀ q, q ≠ a → A'.1 q = A.1 q) := by
  refine Ev.mk 0 [some (.ref a), some (.ref b), some (.int k), some (.int s), some (.int i), some (.int n)] rfl plX3 (Nat.le_of_ble_eq_true rfl) ?_
  refine r_aload_n 1 dX3_init_0 rfl rfl lo0 ?_
  refine r_aload_n 2 dX3_init_1 rfl rfl lo1 ?_
  refine r_putF 5 dX3_init_2 rfl g_X3_1_9 cw_9 fw_9_4 fo_9_4 rfl hA hba so4 (Nat.le_of_ble_eq_true rfl) rfl rfl ?_
  refine r_aload_n 6 dX3_init_5 rfl rfl lo0 ?_
  refine r_aload_n 7 dX3_init_6 rfl rfl lo1 ?_
  refine rx_NI1v 10 dX3_init_7 rfl sNI_X3_7 (by rfl) (ev_X2_init_9 hp_up_s hba) (fun A4 hP => ?_)
  subst hP
  refine r_aload_n 11 dX3_init_10 rfl rfl lo0 ?_
  refine r_iload_n 12 dX3_init_11 rfl rfl lo2 ?_
  refine r_putF 15 dX3_init_12 rfl g_X3_13_9 cw_9 fw_9_0 fo_9_0 rfl hp_up_s hba so0 (Nat.le_of_ble_eq_true rfl) rfl rfl ?_
  refine r_aload_n 16 dX3_init_15 rfl rfl lo0 ?_
  refine r_iload_n 17 dX3_init_16 rfl rfl lo3 ?_
  refine r_putF 20 dX3_init_17 rfl g_X3_17_9 cw_9 fw_9_1 fo_9_1 rfl hp_up_s hba so1 (Nat.le_of_ble_eq_true rfl) rfl rfl ?_
  refine r_aload_n 21 dX3_init_20 rfl rfl lo0 ?_
  refine r_iload 23 dX3_init_21 rfl lo4 ?_
  refine r_putF 26 dX3_init_23 rfl g_X3_20_9 cw_9 fw_9_2 fo_9_2 rfl hp_up_s hba so2 (Nat.le_of_ble_eq_true rfl) rfl rfl ?_
  refine r_aload_n 27 dX3_init_26 rfl rfl lo0 ?_
  refine r_iload 29 dX3_init_27 rfl lo5 ?_
  refine r_putF 32 dX3_init_29 rfl g_X3_23_9 cw_9 fw_9_3 fo_9_3 rfl hp_up_s hba so3 (Nat.le_of_ble_eq_true rfl) rfl rfl ?_
  exact r_vret dX3_init_32 rfl (Nat.le_refl _) (Nat.le_refl _) ⟨rfl, hp_up_s, rfl, fun q hq => (hp_up_n hq).trans ((hp_up_n hq).trans ((hp_up_n hq).trans ((hp_up_n hq).trans ((hp_up_n hq).trans (hp_up_n hq)))))⟩

set_option maxHeartbeats 4000000 in
theorem ev_X3_init_10 {w : WE} {A : Hp} {a b : Nat} {k s i n : Int32} {f0 f1 f2 f3 f4 f5 f6 : Value} (hA : A.1 a = some (.inr (10, [f0, f1, f2, f3, f4, f5, f6]))) (hba : wb w ≤ a) : EvP w mX3_init 2 0 0 [.ref a, .ref b, .int k, .int s, .int i, .int n] A none (fun A' => A'.1 a = some (.inr (10, [.int k, .int s, .int i, .int n, .ref b, .ref b, f6])) ∧ A'.2 = A.2 ∧ ∀ q, q ≠ a → A'.1 q = A.1 q) := by
  refine Ev.mk 0 [some (.ref a), some (.ref b), some (.int k), some (.int s), some (.int i), some (.int n)] rfl plX3 (Nat.le_of_ble_eq_true rfl) ?_
  refine r_aload_n 1 dX3_init_0 rfl rfl lo0 ?_
  refine r_aload_n 2 dX3_init_1 rfl rfl lo1 ?_
  refine r_putF 5 dX3_init_2 rfl g_X3_1_10 cw_10 fw_10_4 fo_10_4 rfl hA hba so4 (Nat.le_of_ble_eq_true rfl) rfl rfl ?_
  refine r_aload_n 6 dX3_init_5 rfl rfl lo0 ?_
  refine r_aload_n 7 dX3_init_6 rfl rfl lo1 ?_
  refine rx_NI1v 10 dX3_init_7 rfl sNI_X3_7 (by rfl) (ev_X2_init_10 hp_up_s hba) (fun A4 hP => ?_)
  subst hP
  refine r_aload_n 11 dX3_init_10 rfl rfl lo0 ?_
  refine r_iload_n 12 dX3_init_11 rfl rfl lo2 ?_
  refine r_putF 15 dX3_init_12 rfl g_X3_13_10 cw_10 fw_10_0 fo_10_0 rfl hp_up_s hba so0 (Nat.le_of_ble_eq_true rfl) rfl rfl ?_
  refine r_aload_n 16 dX3_init_15 rfl rfl lo0 ?_
  refine r_iload_n 17 dX3_init_16 rfl rfl lo3 ?_
  refine r_putF 20 dX3_init_17 rfl g_X3_17_10 cw_10 fw_10_1 fo_10_1 rfl hp_up_s hba so1 (Nat.le_of_ble_eq_true rfl) rfl rfl ?_
  refine r_aload_n 21 dX3_init_20 rfl rfl lo0 ?_
  refine r_iload 23 dX3_init_21 rfl lo4 ?_
  refine r_putF 26 dX3_init_23 rfl g_X3_20_10 cw_10 fw_10_2 fo_10_2 rfl hp_up_s hba so2 (Nat.le_of_ble_eq_true rfl) rfl rfl ?_
  refine r_aload_n 27 dX3_init_26 rfl rfl lo0 ?_
  refine r_iload 29 dX3_init_27 rfl lo5 ?_
  refine r_putF 32 dX3_init_29 rfl g_X3_23_10 cw_10 fw_10_3 fo_10_3 rfl hp_up_s hba so3 (Nat.le_of_ble_eq_true rfl) rfl rfl ?_
  exact r_vret dX3_init_32 rfl (Nat.le_refl _) (Nat.le_refl _) ⟨rfl, hp_up_s, rfl, fun q hq => (hp_up_n hq).trans ((hp_up_n hq).trans ((hp_up_n hq).trans ((hp_up_n hq).trans ((hp_up_n hq).trans (hp_up_n hq)))))⟩

set_option maxHeartbeats 4000000 in
theorem ev_X4_init {w : WE} {A : Hp} {a b : Nat} {k s i n : Int32} {f0 f1 f2 f3 f4 f5 f6 : Value} (hA : A.1 a = some (.inr (8, [f0, f1, f2, f3, f4, f5, f6]))) (hba : wb w ≤ a) : EvP w mX4_init 3 0 0 [.ref a, .ref b, .int k, .int s, .int i, .int n] A none (fun A' => A'.1 a = some (.inr (8, [.int k, .int s, .int i, .int n, .ref b, .ref b, .ref b])) ∧ A'.2 = A.2 ∧ ∀ q, q ≠ a → A'.1 q = A.1 q) := by
  refine Ev.mk 0 [some (.ref a), some (.ref b), some (.int k), some (.int s), some (.int i), some (.int n)] rfl plX4 (Nat.le_of_ble_eq_true rfl) ?_
  refine r_aload_n 1 dX4_init_0 rfl rfl lo0 ?_
  refine r_aload_n 2 dX4_init_1 rfl rfl lo1 ?_
  refine r_putF 5 dX4_init_2 rfl g_X4_1_8 cw_8 fw_8_6 fo_8_6 rfl hA hba so6 (Nat.le_of_ble_eq_true rfl) rfl rfl ?_
  refine r_aload_n 6 dX4_init_5 rfl rfl lo0 ?_
  refine r_aload_n 7 dX4_init_6 rfl rfl lo1 ?_
  refine r_iload_n 8 dX4_init_7 rfl rfl lo2 ?_
  refine r_iload_n 9 dX4_init_8 rfl rfl lo3 ?_
  refine r_iload 11 dX4_init_9 rfl lo4 ?_
  refine r_iload 13 dX4_init_11 rfl lo5 ?_
  refine rx_I5v 16 dX4_init_13 rfl sI_X4_7 (by rfl) (ev_X3_init_8 hp_up_s hba) (fun A4 hP => ?_)
  obtain ⟨p1, p2, p3⟩ := hP
  exact r_vret dX4_init_16 rfl (Nat.le_refl _) (Nat.le_refl _) ⟨rfl, p1, p2, fun q hq => (p3 q hq).trans (hp_up_n hq)⟩

set_option maxHeartbeats 4000000 in
theorem ev_X10_init {w : WE} {A : Hp} {a b : Nat} {k s i n : Int32} {f0 f1 f2 f3 f4 f5 f6 : Value} (hA : A.1 a = some (.inr (10, [f0, f1, f2, f3, f4, f5, f6]))) (hba : wb w ≤ a) : EvP w mX10_init 3 0 0 [.ref a, .ref b, .int k, .int s, .int i, .int n] A none (fun A' => A'.1 a = some (.inr (10, [.int k, .int s, .int i, .int n, .ref b, .ref b, .ref b])) ∧ A'.2 = A.2 ∧ ∀ q, q ≠ a → A'.1 q = A.1 q) := by
  refine Ev.mk 0 [some (.ref a), some (.ref b), some (.int k), some (.int s), some (.int i), some (.int n)] rfl plX10 (Nat.le_of_ble_eq_true rfl) ?_
  refine r_aload_n 1 dX10_init_0 rfl rfl lo0 ?_
  refine r_aload_n 2 dX10_init_1 rfl rfl lo1 ?_
  refine r_putF 5 dX10_init_2 rfl g_X10_1_10 cw_10 fw_10_6 fo_10_6 rfl hA hba so6 (Nat.le_of_ble_eq_true rfl) rfl rfl ?_
  refine r_aload_n 6 dX10_init_5 rfl rfl lo0 ?_
  refine r_aload_n 7 dX10_init_6 rfl rfl lo1 ?_
  refine r_iload_n 8 dX10_init_7 rfl rfl lo2 ?_
  refine r_iload_n 9 dX10_init_8 rfl rfl lo3 ?_
  refine r_iload 11 dX10_init_9 rfl lo4 ?_
  refine r_iload 13 dX10_init_11 rfl lo5 ?_
  refine rx_I5v 16 dX10_init_13 rfl sI_X10_7 (by rfl) (ev_X3_init_10 hp_up_s hba) (fun A4 hP => ?_)
  obtain ⟨p1, p2, p3⟩ := hP
  exact r_vret dX10_init_16 rfl (Nat.le_refl _) (Nat.le_refl _) ⟨rfl, p1, p2, fun q hq => (p3 q hq).trans (hp_up_n hq)⟩

set_option maxHeartbeats 4000000 in
theorem ev_X9_init {w : WE} {A : Hp} {a b : Nat} {h k s i n : Int32} {f0 f1 f2 f3 f4 f5 f6 f7 : Value} (hA : A.1 a = some (.inr (9, [f0, f1, f2, f3, f4, f5, f6, f7]))) (hba : wb w ≤ a) : EvP w mX9_init 3 0 0 [.ref a, .ref b, .int h, .int k, .int s, .int i, .int n] A none (fun A' => A'.1 a = some (.inr (9, [.int k, .int s, .int i, .int n, .ref b, .ref b, .int h, .ref b])) ∧ A'.2 = A.2 ∧ ∀ q, q ≠ a → A'.1 q = A.1 q) := by
  refine Ev.mk 0 [some (.ref a), some (.ref b), some (.int h), some (.int k), some (.int s), some (.int i), some (.int n)] rfl plX9 (Nat.le_of_ble_eq_true rfl) ?_
  refine r_aload_n 1 dX9_init_0 rfl rfl lo0 ?_
  refine r_aload_n 2 dX9_init_1 rfl rfl lo1 ?_
  refine r_putF 5 dX9_init_2 rfl g_X9_1_9 cw_9 fw_9_7 fo_9_7 rfl hA hba so7 (Nat.le_of_ble_eq_true rfl) rfl rfl ?_
  refine r_aload_n 6 dX9_init_5 rfl rfl lo0 ?_
  refine r_aload_n 7 dX9_init_6 rfl rfl lo1 ?_
  refine r_iload_n 8 dX9_init_7 rfl rfl lo3 ?_
  refine r_iload 10 dX9_init_8 rfl lo4 ?_
  refine r_iload 12 dX9_init_10 rfl lo5 ?_
  refine r_iload 14 dX9_init_12 rfl lo6 ?_
  refine rx_I5v 17 dX9_init_14 rfl sI_X9_7 (by rfl) (ev_X3_init_9 hp_up_s hba) (fun A4 hP => ?_)
  obtain ⟨p1, p2, p3⟩ := hP
  refine r_aload_n 18 dX9_init_17 rfl rfl lo0 ?_
  refine r_iload_n 19 dX9_init_18 rfl rfl lo2 ?_
  refine r_putF 22 dX9_init_19 rfl g_X9_13_9 cw_9 fw_9_6 fo_9_6 rfl p1 hba so6 (Nat.le_of_ble_eq_true rfl) rfl rfl ?_
  exact r_vret dX9_init_22 rfl (Nat.le_refl _) (Nat.le_refl _) ⟨rfl, hp_up_s, p2, fun q hq => (hp_up_n hq).trans ((p3 q hq).trans (hp_up_n hq))⟩

set_option maxHeartbeats 4000000 in
theorem ev_X12_init {w : WE} {A : Hp} {a b : Nat} {f i t j n : Int32} {f0 f1 f2 f3 f4 f5 f6 : Value} (hA : A.1 a = some (.inr (11, [f0, f1, f2, f3, f4, f5, f6]))) (hba : wb w ≤ a) : EvP w mX12_init 2 0 0 [.ref a, .ref b, .int f, .int i, .int t, .int j, .int n] A none (fun A' => A'.1 a = some (.inr (11, [.ref b, .int f, .int i, .int t, .int j, .int n, .ref b])) ∧ A'.2 = A.2 ∧ ∀ q, q ≠ a → A'.1 q = A.1 q) := by
  refine Ev.mk 0 [some (.ref a), some (.ref b), some (.int f), some (.int i), some (.int t), some (.int j), some (.int n)] rfl plX12 (Nat.le_of_ble_eq_true rfl) ?_
  refine r_aload_n 1 dX12_init_0 rfl rfl lo0 ?_
  refine r_aload_n 2 dX12_init_1 rfl rfl lo1 ?_
  refine r_putF 5 dX12_init_2 rfl g_X12_1_11 cw_11 fw_11_6 fo_11_6 rfl hA hba so6 (Nat.le_of_ble_eq_true rfl) rfl rfl ?_
  refine r_aload_n 6 dX12_init_5 rfl rfl lo0 ?_
  refine r_aload_n 7 dX12_init_6 rfl rfl lo1 ?_
  refine rx_NI1v 10 dX12_init_7 rfl sNI_X12_7 (by rfl) (ev_X2_init_11 hp_up_s hba) (fun A4 hP => ?_)
  subst hP
  refine r_aload_n 11 dX12_init_10 rfl rfl lo0 ?_
  refine r_iload_n 12 dX12_init_11 rfl rfl lo2 ?_
  refine r_putF 15 dX12_init_12 rfl g_X12_13_11 cw_11 fw_11_1 fo_11_1 rfl hp_up_s hba so1 (Nat.le_of_ble_eq_true rfl) rfl rfl ?_
  refine r_aload_n 16 dX12_init_15 rfl rfl lo0 ?_
  refine r_iload_n 17 dX12_init_16 rfl rfl lo3 ?_
  refine r_putF 20 dX12_init_17 rfl g_X12_17_11 cw_11 fw_11_2 fo_11_2 rfl hp_up_s hba so2 (Nat.le_of_ble_eq_true rfl) rfl rfl ?_
  refine r_aload_n 21 dX12_init_20 rfl rfl lo0 ?_
  refine r_iload 23 dX12_init_21 rfl lo4 ?_
  refine r_putF 26 dX12_init_23 rfl g_X12_20_11 cw_11 fw_11_3 fo_11_3 rfl hp_up_s hba so3 (Nat.le_of_ble_eq_true rfl) rfl rfl ?_
  refine r_aload_n 27 dX12_init_26 rfl rfl lo0 ?_
  refine r_iload 29 dX12_init_27 rfl lo5 ?_
  refine r_putF 32 dX12_init_29 rfl g_X12_23_11 cw_11 fw_11_4 fo_11_4 rfl hp_up_s hba so4 (Nat.le_of_ble_eq_true rfl) rfl rfl ?_
  refine r_aload_n 33 dX12_init_32 rfl rfl lo0 ?_
  refine r_iload 35 dX12_init_33 rfl lo6 ?_
  refine r_putF 38 dX12_init_35 rfl g_X12_26_11 cw_11 fw_11_5 fo_11_5 rfl hp_up_s hba so5 (Nat.le_of_ble_eq_true rfl) rfl rfl ?_
  exact r_vret dX12_init_38 rfl (Nat.le_refl _) (Nat.le_refl _) ⟨rfl, hp_up_s, rfl, fun q hq => (hp_up_n hq).trans ((hp_up_n hq).trans ((hp_up_n hq).trans ((hp_up_n hq).trans ((hp_up_n hq).trans ((hp_up_n hq).trans (hp_up_n hq))))))⟩

