/-! THE REFERENCE: tables, books, dry hours -/
set_option maxRecDepth 100000
set_option maxHeartbeats 4000000 in
theorem lp_X1_table {w : WE} {A A0 : Hp} {m : MT} {S S' : ST} {ms : List Mo} {h k i n : Nat} {sort r : Int32} {x6 : Option Value} {c : Nat → Int32} (hm : MR w A m) (hF : Fm w A0 A) (hM : MoR m ms) (hS : MS m S') (hc : ∀ t, t < n → m.2 3 (60 * k + i + t) = c t) (hh : h + n ≤ 2000) (hk : 60 * k + i + n ≤ 240) (hx6 : ∀ u, x6 = some u → u.category = 1) : ∀ (j t : Nat), t + j = n → r = fd (fun t => !decide (c t = nI (lvl ms (h + t)))) j t → Rn w mX1_table (rmX 3 0 0) (ZX w (QM w A0 (fun v m' => v = some (.int r) ∧ MS m' S')) 0 0) 0 0 A 90 [some (.ref (mb w)), some (.int (nI h)), some (.int (nI k)), some (.int sort), some (.int (nI i)), some (.int (nI n)), x6, some (.int (nI (60 * k + i))), some (.int (nI t))] [] := by
  intro j
  induction j with
  | zero =>
    intro t htj hr
    refine r_iload 92 dX1_table_90 rfl lo8 ?_
    refine r_iload 94 dX1_table_92 rfl lo5 ?_
    first | refine r_icmp_geN 127 97 dX1_table_94 rfl (by decide) (by omega) (by omega) (fun hc94 => ?_) (fun hc94 => ?_) | refine r_icmp_ge 127 97 dX1_table_94 rfl (by decide) (fun hc94 => ?_) (fun hc94 => ?_)
    · refine r_bipush 129 dX1_table_127 rfl bi_m9 ?_
      exact r_iret dX1_table_129 rfl (Nat.le_refl _) (Nat.le_refl _) (qm hm hF ⟨by rw [hr]; rfl, hS⟩)
    · exact absurd hc94 (by omega)
  | succ j ih =>
    intro t htj hr
    have hl := hM.lt (h + t)
    refine r_iload 92 dX1_table_90 rfl lo8 ?_
    refine r_iload 94 dX1_table_92 rfl lo5 ?_
    first | refine r_icmp_geN 127 97 dX1_table_94 rfl (by decide) (by omega) (by omega) (fun hc94 => ?_) (fun hc94 => ?_) | refine r_icmp_ge 127 97 dX1_table_94 rfl (by decide) (fun hc94 => ?_) (fun hc94 => ?_)
    · exact absurd hc94 (by omega)
    · refine r_aload_n 98 dX1_table_97 rfl rfl lo0 ?_
      refine r_get 101 dX1_table_98 rfl g_X1_16_1 hm.t lo4 ?_
      refine r_iload 103 dX1_table_101 rfl lo7 ?_
      refine r_iload 105 dX1_table_103 rfl lo8 ?_
      first | refine r_iaddN 106 dX1_table_105 rfl ?_ | refine r_iadd 106 dX1_table_105 rfl ?_
      refine r_ialdv 107 dX1_table_106 rfl hm.a3 _ rfl (hc t (by omega)) (by omega) (by decide) ?_
      refine r_aload_n 108 dX1_table_107 rfl rfl lo0 ?_
      refine r_iload_n 109 dX1_table_108 rfl rfl lo1 ?_
      refine r_iload 111 dX1_table_109 rfl lo8 ?_
      first | refine r_iaddN 112 dX1_table_111 rfl ?_ | refine r_iadd 112 dX1_table_111 rfl ?_
      refine r_cV1 115 dX1_table_112 rfl sV_X1_144_1 hm.t (by rfl) (ev_X1_levelAt hm hM (by omega)) ?_
      refine r_icmp_eq 121 118 dX1_table_115 rfl (by decide) (fun hc115 => ?_) (fun hc115 => ?_)
      · refine r_iinc 124 dX1_table_121 rfl lo8 inc1 so8 rfl ?_
        refine r_goto 90 dX1_table_124 (by decide) ?_
        exact ih (t + 1) (by omega) (by rw [hr]; conv => lhs; unfold fd; rw [if_neg (by simp [hc115])])
      · refine r_iload 120 dX1_table_118 rfl lo8 ?_
        exact r_iret dX1_table_120 rfl (Nat.le_refl _) (Nat.le_refl _) (qm hm hF ⟨by rw [hr]; unfold fd; rw [if_pos (by simp [hc115])], hS⟩)

set_option maxHeartbeats 4000000 in
theorem ev_X1_table {w : WE} {A : Hp} {m : MT} {S : ST} {hour k sort i n : Int32} (hm : MR w A m) (hS : MS m S) : Ev w mX1_table 3 0 0 [.ref (mb w), .int hour, .int k, .int sort, .int i, .int n] A (QM w A (fun r m' => r = some (.int (sp_table S hour k sort i n).1) ∧ MS m' (sp_table S hour k sort i n).2)) := by
  refine Ev.mk 3 [some (.ref (mb w)), some (.int hour), some (.int k), some (.int sort), some (.int i), some (.int n), none, none, none] rfl plX1 (Nat.le_of_ble_eq_true rfl) ?_
  have hF : Fm w A A := Fm.rf
  have hi6 := hS.ok.le
  have hz : (m.1 5).toInt = (S.1 : Int) := by rw [hS.il, nI_toInt (by omega)]
  refine r_aload_n 1 dX1_table_0 rfl rfl lo0 ?_
  refine r_iconst 2 dX1_table_1 rfl ic_0 ?_
  refine rm_put 5 dX1_table_2 rfl hm hF g_X1_76_1 fw_1_0 rfl (by decide) (fun A hm hF => ?_)
  refine r_iload_n 6 dX1_table_5 rfl rfl lo2 ?_
  refine r_cS1 9 dX1_table_6 rfl sS_X1_96 (by rfl) ev_X1_isSheet ?_
  refine r_if_neB 14 12 dX1_table_9 rfl (by decide) (fun hc9 => ?_) (fun hc9 => ?_)
  · refine r_iload_n 15 dX1_table_14 rfl rfl lo3 ?_
    refine r_cS1 18 dX1_table_15 rfl sS_X1_100 (by rfl) ev_X1_isSort ?_
    refine r_if_eqB 28 21 dX1_table_18 rfl (by decide) (fun hc18 => ?_) (fun hc18 => ?_)
    · refine r_bipush 30 dX1_table_28 rfl bi_m2 ?_
      exact r_iret dX1_table_30 rfl (Nat.le_refl _) (Nat.le_refl _) (qm hm hF (by unfold sp_table; rw [look_out hc9 (by first | exact Or.inl hc18 | exact Or.inr hc25)]; exact ⟨rfl, hS.fault (nI 0)⟩))
    · refine r_iload_n 22 dX1_table_21 rfl rfl lo1 ?_
      refine r_cS1 25 dX1_table_22 rfl sS_X1_137 (by rfl) ev_X1_isHour ?_
      refine r_if_neB 31 28 dX1_table_25 rfl (by decide) (fun hc25 => ?_) (fun hc25 => ?_)
      · obtain ⟨k, hk, rfl⟩ := sheet_ok hc9
        obtain ⟨h, hh, rfl⟩ := hr_ok hc25
        have hag := ag_le (S.2.2.2.2.2 k) sort i n
        refine r_aload_n 32 dX1_table_31 rfl rfl lo0 ?_
        refine r_iload_n 33 dX1_table_32 rfl rfl lo2 ?_
        refine r_iload_n 34 dX1_table_33 rfl rfl lo3 ?_
        refine r_iload 36 dX1_table_34 rfl lo4 ?_
        refine r_iload 38 dX1_table_36 rfl lo5 ?_
        refine r_cV4 41 dX1_table_38 rfl sV_X1_103_1 hm.t (by rfl) (show EvI w mX1_against 1 _ A (nI (ag (S.2.2.2.2.2 k) sort i n)) from ev_X1_against (S := sF S (nI 0)) hm (hS.fault (nI 0)) hk) ?_
        refine r_istore 43 dX1_table_41 rfl so6 rfl ?_
        refine r_iload 45 dX1_table_43 rfl lo6 ?_
        first | refine r_if_eqN 55 48 dX1_table_45 rfl (by decide) (by omega) (fun hc45 => ?_) (fun hc45 => ?_) | refine r_if_eq 55 48 dX1_table_45 rfl (by decide) (fun hc45 => ?_) (fun hc45 => ?_)
        · obtain ⟨q, i', n', hq, rfl, rfl, rfl, hin, hl60⟩ := ag_0 hc45 (fun q hq => ((hS.sh k hk).2 q hq).2.2.2.1)
          obtain ⟨h1, l1, h2, l2, h3⟩ := (hS.sh k hk).2 q hq
          refine r_aload_n 56 dX1_table_55 rfl rfl lo0 ?_
          refine r_cV0 59 dX1_table_56 rfl sV_X1_140_1 hm.t (by rfl) (ev_X1_isSea hm) ?_
          refine r_if_neB 65 62 dX1_table_59 rfl (by decide) (fun hc59 => ?_) (fun hc59 => ?_)
          · replace hc59 : btw (m.1 5).toInt 1 2147483647 = true := hc59
            have hpos := btw_t.mp hc59
            refine r_iload_n 66 dX1_table_65 rfl rfl lo1 ?_
            refine r_iload 68 dX1_table_66 rfl lo5 ?_
            first | refine r_iaddN 69 dX1_table_68 rfl ?_ | refine r_iadd 69 dX1_table_68 rfl ?_
            refine r_sipush 72 dX1_table_69 rfl si_2000 ?_
            first | refine r_icmp_leN 78 75 dX1_table_72 rfl (by decide) (by omega) (by omega) (fun hc72 => ?_) (fun hc72 => ?_) | refine r_icmp_le 78 75 dX1_table_72 rfl (by decide) (fun hc72 => ?_) (fun hc72 => ?_)
            · refine r_bipush 80 dX1_table_78 rfl bi_60 ?_
              refine r_iload_n 81 dX1_table_80 rfl rfl lo2 ?_
              first | refine r_imulN 82 dX1_table_81 rfl ?_ | refine r_imul 82 dX1_table_81 rfl ?_
              refine r_iload 84 dX1_table_82 rfl lo4 ?_
              first | refine r_iaddN 85 dX1_table_84 rfl ?_ | refine r_iadd 85 dX1_table_84 rfl ?_
              refine r_istore 87 dX1_table_85 rfl so7 rfl ?_
              refine r_iconst 88 dX1_table_87 rfl ic_0 ?_
              refine r_istore 90 dX1_table_88 rfl so8 rfl ?_
              have e : sp_table S (nI h) (nI k) (nI q.1) (nI i') (nI n') = (fd (fun t => !decide (q.2.2 (i' + t) = nI (lvl S.2.1 (h + t)))) n' 0, sF S (nI 0)) := by
                unfold sp_table
                rw [look_ok hk hc18 hc25 hc45 hq (by omega) (by omega), nI_nat (j := h) (by omega), if_neg (by omega), if_neg (by omega)]
              rw [e]
              exact lp_X1_table (S := S) (S' := sF S (nI 0)) (c := fun t => q.2.2 (i' + t)) hm hF hS.mo (hS.fault (nI 0)) (fun t ht => by rw [Nat.add_assoc]; exact h3 (i' + t) (by omega)) (by omega) (by omega) (fun u hu => by cases hu; rfl) n' 0 (by omega) rfl
            · refine r_bipush 77 dX1_table_75 rfl bi_m2 ?_
              exact r_iret dX1_table_77 rfl (Nat.le_refl _) (Nat.le_refl _) (qm hm hF (by unfold sp_table; rw [look_ok hk hc18 hc25 hc45 hq (by omega) (by omega), nI_nat (j := h) (by omega), if_neg (by omega), if_pos (by omega)]; exact ⟨rfl, hS.fault (nI 0)⟩))
          · refine r_bipush 64 dX1_table_62 rfl bi_m3 ?_
            exact r_iret dX1_table_64 rfl (Nat.le_refl _) (Nat.le_refl _) (qm hm hF (by unfold sp_table; rw [look_ok hk hc18 hc25 hc45 hq (by omega) (by omega), if_pos (by replace hc59 : btw (m.1 5).toInt 1 2147483647 = false := hc59; have := btw_f.mp hc59; omega)]; exact ⟨rfl, hS.fault (nI 0)⟩))
        · refine r_aload_n 49 dX1_table_48 rfl rfl lo0 ?_
          refine r_iload 51 dX1_table_49 rfl lo6 ?_
          refine rm_i1 54 dX1_table_51 rfl sV_X1_107_1 hm hF (by rfl) (ev_X1_fails hm) (fun A m' hP hm hF => ?_)
          subst hP
          exact r_iret dX1_table_54 rfl (Nat.le_refl _) (Nat.le_refl _) (qm hm hF (by unfold sp_table; rw [look_bad hk hc18 hc25 hc45 rfl]; exact ⟨rfl, hS.fault _⟩))
      · refine r_bipush 30 dX1_table_28 rfl bi_m2 ?_
        exact r_iret dX1_table_30 rfl (Nat.le_refl _) (Nat.le_refl _) (qm hm hF (by unfold sp_table; rw [look_out hc9 (by first | exact Or.inl hc18 | exact Or.inr hc25)]; exact ⟨rfl, hS.fault (nI 0)⟩))
  · refine r_iconst 13 dX1_table_12 rfl ic_m1 ?_
    exact r_iret dX1_table_13 rfl (Nat.le_refl _) (Nat.le_refl _) (qm hm hF (by unfold sp_table; rw [look_no hc9]; exact ⟨rfl, hS.fault (nI 0)⟩))

set_option maxHeartbeats 4000000 in
theorem lp_X1_isMonthOf {w : WE} {A : Hp} {m : MT} {p n b : Nat} {c : Nat → Int32} {r : Bool} (hm : MR w A m) (hc : ∀ t, t < n → m.2 3 (p + t) = c t) (hp : p + n ≤ 240) (hb : 0 < b) (hb2 : b ≤ 30) : ∀ (j t : Nat), 1 ≤ t → (t + j = n ∨ (j = 0 ∧ n ≤ t ∧ t ≤ 1)) → r = allb (fun t => remz (c t - c 0) (nI b)) j t → Rn w mX1_isMonthOf (rmX 1 0 0) (ZX w (QV (.int (bI r)) A) 0 0) 0 0 A 3 [some (.ref (mb w + 3)), some (.int (nI p)), some (.int (nI n)), some (.int (nI b)), some (.int (nI t))] [] := by
  intro j
  induction j with
  | zero =>
    intro t h1 htj hr
    refine r_iload 5 dX1_isMonthOf_3 rfl lo4 ?_
    refine r_iload_n 6 dX1_isMonthOf_5 rfl rfl lo2 ?_
    first | refine r_icmp_geN 32 9 dX1_isMonthOf_6 rfl (by decide) (by omega) (by omega) (fun hc6 => ?_) (fun hc6 => ?_) | refine r_icmp_ge 32 9 dX1_isMonthOf_6 rfl (by decide) (fun hc6 => ?_) (fun hc6 => ?_)
    · refine r_iconst 33 dX1_isMonthOf_32 rfl ic_1 ?_
      exact r_zret dX1_isMonthOf_33 rfl (by first | exact nb_b _ | exact nb_0 | exact nb_1) (Nat.le_refl _) (Nat.le_refl _) (rv (by rw [hr]; rfl))
    · exact absurd hc6 (by omega)
  | succ j ih =>
    intro t h1 htj hr
    have hb0 : ¬ nI b = 0 := nI_ne0 hb (by omega)
    refine r_iload 5 dX1_isMonthOf_3 rfl lo4 ?_
    refine r_iload_n 6 dX1_isMonthOf_5 rfl rfl lo2 ?_
    first | refine r_icmp_geN 32 9 dX1_isMonthOf_6 rfl (by decide) (by omega) (by omega) (fun hc6 => ?_) (fun hc6 => ?_) | refine r_icmp_ge 32 9 dX1_isMonthOf_6 rfl (by decide) (fun hc6 => ?_) (fun hc6 => ?_)
    · exact absurd hc6 (by omega)
    · refine r_aload_n 10 dX1_isMonthOf_9 rfl rfl lo0 ?_
      refine r_iload_n 11 dX1_isMonthOf_10 rfl rfl lo1 ?_
      refine r_iload 13 dX1_isMonthOf_11 rfl lo4 ?_
      first | refine r_iaddN 14 dX1_isMonthOf_13 rfl ?_ | refine r_iadd 14 dX1_isMonthOf_13 rfl ?_
      refine r_ialdv 15 dX1_isMonthOf_14 rfl hm.a3 _ rfl (hc t (by omega)) (by omega) (by decide) ?_
      refine r_aload_n 16 dX1_isMonthOf_15 rfl rfl lo0 ?_
      refine r_iload_n 17 dX1_isMonthOf_16 rfl rfl lo1 ?_
      refine r_ialdv 18 dX1_isMonthOf_17 rfl hm.a3 _ rfl (hc 0 (by omega)) (by omega) (by decide) ?_
      refine r_isub 19 dX1_isMonthOf_18 rfl ?_
      refine r_iload_n 20 dX1_isMonthOf_19 rfl rfl lo3 ?_
      refine r_irem 21 dX1_isMonthOf_20 rfl (by assumption) ?_
      refine r_if_eq 26 24 dX1_isMonthOf_21 rfl (by decide) (fun hc21 => ?_) (fun hc21 => ?_)
      · refine r_iinc 29 dX1_isMonthOf_26 rfl lo4 inc1 so4 rfl ?_
        refine r_goto 3 dX1_isMonthOf_29 (by decide) ?_
        exact ih (t + 1) (by omega) (by omega) (by rw [hr]; conv => lhs; unfold allb; rw [if_pos (by unfold remz; simp [hc21])])
      · refine r_iconst 25 dX1_isMonthOf_24 rfl ic_0 ?_
        exact r_zret dX1_isMonthOf_25 rfl (by first | exact nb_b _ | exact nb_0 | exact nb_1) (Nat.le_refl _) (Nat.le_refl _) (rv (by rw [hr]; unfold allb; rw [if_neg (by unfold remz; simp [hc21])]; rfl))

set_option maxHeartbeats 4000000 in
theorem ev_X1_isMonthOf {w : WE} {A : Hp} {m : MT} {p n b : Nat} {c : Nat → Int32} (hm : MR w A m) (hc : ∀ t, t < n → m.2 3 (p + t) = c t) (hp : p + n ≤ 240) (hb : 0 < b) (hb2 : b ≤ 30) : EvI w mX1_isMonthOf 1 [.ref (mb w + 3), .int (nI p), .int (nI n), .int (nI b)] A (bI (allb (fun t => remz (c t - c 0) (nI b)) (n - 1) 1)) := by
  refine Ev.mk 1 [some (.ref (mb w + 3)), some (.int (nI p)), some (.int (nI n)), some (.int (nI b)), none] rfl plX1 (Nat.le_of_ble_eq_true rfl) ?_
  refine r_iconst 1 dX1_isMonthOf_0 rfl ic_1 ?_
  refine r_istore 3 dX1_isMonthOf_1 rfl so4 rfl ?_
  exact lp_X1_isMonthOf hm hc hp hb hb2 (n - 1) 1 (by omega) (by omega) rfl

set_option maxHeartbeats 4000000 in
theorem lq_X1_book {w : WE} {A A0 : Hp} {m : MT} {S' : ST} {k i n : Nat} {sort r : Int32} {x5 : Option Value} {c : Nat → Int32} (hm : MR w A m) (hF : Fm w A0 A) (hS : MS m S') (hc : ∀ t, t < n → m.2 3 (60 * k + i + t) = c t) (hk : 60 * k + i + n ≤ 240) : ∀ (j b : Nat) (s : Int32), b + j = 31 → 2 ≤ b → r = bset (fun b => allb (fun t => remz (c t - c 0) (nI b)) (n - 1) 1) j b s → Rn w mX1_book (rmX 3 0 0) (ZX w (QM w A0 (fun v m' => v = some (.int r) ∧ MS m' S')) 0 0) 0 0 A 126 [some (.ref (mb w)), some (.int (nI k)), some (.int sort), some (.int (nI i)), some (.int (nI n)), x5, some (.int (nI (60 * k + i))), some (.int s), some (.int (nI b))] [] := by
  intro j
  induction j with
  | zero =>
    intro b s hbj hb2 hr
    refine r_iload 128 dX1_book_126 rfl lo8 ?_
    refine r_bipush 130 dX1_book_128 rfl bi_30 ?_
    first | refine r_icmp_gtN 170 133 dX1_book_130 rfl (by decide) (by omega) (by omega) (fun hc130 => ?_) (fun hc130 => ?_) | refine r_icmp_gt 170 133 dX1_book_130 rfl (by decide) (fun hc130 => ?_) (fun hc130 => ?_)
    · refine r_iload 172 dX1_book_170 rfl lo7 ?_
      exact r_iret dX1_book_172 rfl (Nat.le_refl _) (Nat.le_refl _) (qm hm hF ⟨by rw [hr]; rfl, hS⟩)
    · exact absurd hc130 (by omega)
  | succ j ih =>
    intro b s hbj hb2 hr
    refine r_iload 128 dX1_book_126 rfl lo8 ?_
    refine r_bipush 130 dX1_book_128 rfl bi_30 ?_
    first | refine r_icmp_gtN 170 133 dX1_book_130 rfl (by decide) (by omega) (by omega) (fun hc130 => ?_) (fun hc130 => ?_) | refine r_icmp_gt 170 133 dX1_book_130 rfl (by decide) (fun hc130 => ?_) (fun hc130 => ?_)
    · exact absurd hc130 (by omega)
    · refine r_iload 135 dX1_book_133 rfl lo7 ?_
      refine r_aload_n 136 dX1_book_135 rfl rfl lo0 ?_
      refine r_get 139 dX1_book_136 rfl g_X1_16_1 hm.t lo4 ?_
      refine r_iload 141 dX1_book_139 rfl lo6 ?_
      refine r_iload 143 dX1_book_141 rfl lo4 ?_
      refine r_iload 145 dX1_book_143 rfl lo8 ?_
      refine r_cS4 148 dX1_book_145 rfl sS_X1_203 (by rfl) (ev_X1_isMonthOf (c := c) hm hc hk (by omega) (by omega)) ?_
      refine r_if_eqB 160 151 dX1_book_148 rfl (by decide) (fun hc148 => ?_) (fun hc148 => ?_)
      · refine r_iconst 161 dX1_book_160 rfl ic_0 ?_
        refine r_ior 162 dX1_book_161 rfl ?_
        refine r_istore 164 dX1_book_162 rfl so7 rfl ?_
        refine r_iinc 167 dX1_book_164 rfl lo8 inc1 so8 rfl ?_
        refine r_goto 126 dX1_book_167 (by decide) ?_
        exact ih (b + 1) _ (by omega) (by omega) (by rw [hr]; conv => lhs; unfold bset; first | rw [if_pos hc148] | rw [if_neg (by rw [hc148]; decide)])
      · refine r_iconst 152 dX1_book_151 rfl ic_1 ?_
        refine r_iload 154 dX1_book_152 rfl lo8 ?_
        refine r_iconst 155 dX1_book_154 rfl ic_2 ?_
        first | refine r_isubN 156 dX1_book_155 rfl (by omega) ?_ | refine r_isub 156 dX1_book_155 rfl ?_
        refine r_ishl 157 dX1_book_156 rfl ?_
        refine r_goto 161 dX1_book_157 (by decide) ?_
        refine r_ior 162 dX1_book_161 rfl ?_
        refine r_istore 164 dX1_book_162 rfl so7 rfl ?_
        refine r_iinc 167 dX1_book_164 rfl lo8 inc1 so8 rfl ?_
        refine r_goto 126 dX1_book_167 (by decide) ?_
        exact ih (b + 1) _ (by omega) (by omega) (by rw [hr]; conv => lhs; unfold bset; first | rw [if_pos hc148] | rw [if_neg (by rw [hc148]; decide)])

set_option maxHeartbeats 4000000 in
theorem lp_X1_book {w : WE} {A A0 : Hp} {m : MT} {S' : ST} {k i n : Nat} {sort : Int32} {x5 : Option Value} {c : Nat → Int32} (hm : MR w A m) (hF : Fm w A0 A) (hS : MS m S') (hc : ∀ t, t < n → m.2 3 (60 * k + i + t) = c t) (hk : 60 * k + i + n ≤ 240) (hx5 : ∀ u, x5 = some u → u.category = 1) : ∀ (j t : Nat) (r : Int32) (x8 : Option Value), t + j = n → (r = if anyb (bad c) j t = true then -2 else bset (fun b => allb (fun t => remz (c t - c 0) (nI b)) (n - 1) 1) 29 2 (nI 0)) → Rn w mX1_book (rmX 3 0 0) (ZX w (QM w A0 (fun v m' => v = some (.int r) ∧ MS m' S')) 0 0) 0 0 A 58 [some (.ref (mb w)), some (.int (nI k)), some (.int sort), some (.int (nI i)), some (.int (nI n)), x5, some (.int (nI (60 * k + i))), some (.int (nI t)), x8] [] := by
  intro j
  induction j with
  | zero =>
    intro t r x8 htj hr
    refine r_iload 60 dX1_book_58 rfl lo7 ?_
    refine r_iload 62 dX1_book_60 rfl lo4 ?_
    first | refine r_icmp_geN 120 65 dX1_book_62 rfl (by decide) (by omega) (by omega) (fun hc62 => ?_) (fun hc62 => ?_) | refine r_icmp_ge 120 65 dX1_book_62 rfl (by decide) (fun hc62 => ?_) (fun hc62 => ?_)
    · refine r_iconst 121 dX1_book_120 rfl ic_0 ?_
      refine r_istore 123 dX1_book_121 rfl so7 rfl ?_
      refine r_iconst 124 dX1_book_123 rfl ic_2 ?_
      refine r_istore 126 dX1_book_124 rfl so8 rfl ?_
      exact lq_X1_book hm hF hS hc hk 29 2 (nI 0) (by omega) (by omega) (hr.trans (if_neg Bool.false_ne_true))
    · exact absurd hc62 (by omega)
  | succ j ih =>
    intro t r x8 htj hr
    refine r_iload 60 dX1_book_58 rfl lo7 ?_
    refine r_iload 62 dX1_book_60 rfl lo4 ?_
    first | refine r_icmp_geN 120 65 dX1_book_62 rfl (by decide) (by omega) (by omega) (fun hc62 => ?_) (fun hc62 => ?_) | refine r_icmp_ge 120 65 dX1_book_62 rfl (by decide) (fun hc62 => ?_) (fun hc62 => ?_)
    · exact absurd hc62 (by omega)
    · refine r_aload_n 66 dX1_book_65 rfl rfl lo0 ?_
      refine r_get 69 dX1_book_66 rfl g_X1_16_1 hm.t lo4 ?_
      refine r_iload 71 dX1_book_69 rfl lo6 ?_
      refine r_iload 73 dX1_book_71 rfl lo7 ?_
      first | refine r_iaddN 74 dX1_book_73 rfl ?_ | refine r_iadd 74 dX1_book_73 rfl ?_
      refine r_ialdv 75 dX1_book_74 rfl hm.a3 _ rfl (hc t (by omega)) (by omega) (by decide) ?_
      refine r_cS1 78 dX1_book_75 rfl sS_X1_137 (by rfl) ev_X1_isHour ?_
      refine r_if_eqB 111 81 dX1_book_78 rfl (by decide) (fun hc78 => ?_) (fun hc78 => ?_)
      · refine r_bipush 113 dX1_book_111 rfl bi_m2 ?_
        exact r_iret dX1_book_113 rfl (Nat.le_refl _) (Nat.le_refl _) (qm hm hF ⟨rq (hr.trans (if_pos (anyb_t (by first | exact bad_1 hc78 | exact bad_2 hc83 hc108)))), hS⟩)
      · refine r_iload 83 dX1_book_81 rfl lo7 ?_
        first | refine r_if_leN 114 86 dX1_book_83 rfl (by decide) (by omega) (fun hc83 => ?_) (fun hc83 => ?_) | refine r_if_le 114 86 dX1_book_83 rfl (by decide) (fun hc83 => ?_) (fun hc83 => ?_)
        · refine r_iinc 117 dX1_book_114 rfl lo7 inc1 so7 rfl ?_
          refine r_goto 58 dX1_book_117 (by decide) ?_
          exact ih (t + 1) r _ (by omega) (by rw [hr, anyb_f (bad_0 hc78 (by first | exact Or.inl hc83 | exact Or.inr hc108))])
        · refine r_aload_n 87 dX1_book_86 rfl rfl lo0 ?_
          refine r_get 90 dX1_book_87 rfl g_X1_16_1 hm.t lo4 ?_
          refine r_iload 92 dX1_book_90 rfl lo6 ?_
          refine r_iload 94 dX1_book_92 rfl lo7 ?_
          first | refine r_iaddN 95 dX1_book_94 rfl ?_ | refine r_iadd 95 dX1_book_94 rfl ?_
          refine r_ialdv 96 dX1_book_95 rfl hm.a3 _ rfl (hc t (by omega)) (by omega) (by decide) ?_
          refine r_aload_n 97 dX1_book_96 rfl rfl lo0 ?_
          refine r_get 100 dX1_book_97 rfl g_X1_16_1 hm.t lo4 ?_
          refine r_iload 102 dX1_book_100 rfl lo6 ?_
          refine r_iload 104 dX1_book_102 rfl lo7 ?_
          first | refine r_iaddN 105 dX1_book_104 rfl ?_ | refine r_iadd 105 dX1_book_104 rfl ?_
          refine r_iconst 106 dX1_book_105 rfl ic_1 ?_
          first | refine r_isubN 107 dX1_book_106 rfl (by omega) ?_ | refine r_isub 107 dX1_book_106 rfl ?_
          refine r_ialdv 108 dX1_book_107 rfl hm.a3 _ rfl (show m.2 3 (60 * k + i + t - 1) = c (t - 1) by rw [show 60 * k + i + t - 1 = 60 * k + i + (t - 1) by omega]; exact hc (t - 1) (by omega)) (by omega) (by decide) ?_
          refine r_icmp_gt 114 111 dX1_book_108 rfl (by decide) (fun hc108 => ?_) (fun hc108 => ?_)
          · refine r_iinc 117 dX1_book_114 rfl lo7 inc1 so7 rfl ?_
            refine r_goto 58 dX1_book_117 (by decide) ?_
            exact ih (t + 1) r _ (by omega) (by rw [hr, anyb_f (bad_0 hc78 (by first | exact Or.inl hc83 | exact Or.inr hc108))])
          · refine r_bipush 113 dX1_book_111 rfl bi_m2 ?_
            exact r_iret dX1_book_113 rfl (Nat.le_refl _) (Nat.le_refl _) (qm hm hF ⟨rq (hr.trans (if_pos (anyb_t (by first | exact bad_1 hc78 | exact bad_2 hc83 hc108)))), hS⟩)

set_option maxHeartbeats 4000000 in
theorem ev_X1_book {w : WE} {A : Hp} {m : MT} {S : ST} {k sort i n : Int32} (hm : MR w A m) (hS : MS m S) : Ev w mX1_book 3 0 0 [.ref (mb w), .int k, .int sort, .int i, .int n] A (QM w A (fun r m' => r = some (.int (sp_book S k sort i n).1) ∧ MS m' (sp_book S k sort i n).2)) := by
  refine Ev.mk 4 [some (.ref (mb w)), some (.int k), some (.int sort), some (.int i), some (.int n), none, none, none, none] rfl plX1 (Nat.le_of_ble_eq_true rfl) ?_
  have hF : Fm w A A := Fm.rf
  refine r_aload_n 1 dX1_book_0 rfl rfl lo0 ?_
  refine r_iconst 2 dX1_book_1 rfl ic_0 ?_
  refine rm_put 5 dX1_book_2 rfl hm hF g_X1_76_1 fw_1_0 rfl (by decide) (fun A hm hF => ?_)
  refine r_iload_n 6 dX1_book_5 rfl rfl lo1 ?_
  refine r_cS1 9 dX1_book_6 rfl sS_X1_96 (by rfl) ev_X1_isSheet ?_
  refine r_if_neB 14 12 dX1_book_9 rfl (by decide) (fun hc9 => ?_) (fun hc9 => ?_)
  · refine r_iload_n 15 dX1_book_14 rfl rfl lo2 ?_
    refine r_cS1 18 dX1_book_15 rfl sS_X1_100 (by rfl) ev_X1_isSort ?_
    refine r_if_neB 24 21 dX1_book_18 rfl (by decide) (fun hc18 => ?_) (fun hc18 => ?_)
    · obtain ⟨k, hk, rfl⟩ := sheet_ok hc9
      have hag := ag_le (S.2.2.2.2.2 k) sort i n
      refine r_aload_n 25 dX1_book_24 rfl rfl lo0 ?_
      refine r_iload_n 26 dX1_book_25 rfl rfl lo1 ?_
      refine r_iload_n 27 dX1_book_26 rfl rfl lo2 ?_
      refine r_iload_n 28 dX1_book_27 rfl rfl lo3 ?_
      refine r_iload 30 dX1_book_28 rfl lo4 ?_
      refine r_cV4 33 dX1_book_30 rfl sV_X1_103_1 hm.t (by rfl) (show EvI w mX1_against 1 _ A (nI (ag (S.2.2.2.2.2 k) sort i n)) from ev_X1_against (S := sF S (nI 0)) hm (hS.fault (nI 0)) hk) ?_
      refine r_istore 35 dX1_book_33 rfl so5 rfl ?_
      refine r_iload 37 dX1_book_35 rfl lo5 ?_
      first | refine r_if_eqN 47 40 dX1_book_37 rfl (by decide) (by omega) (fun hc37 => ?_) (fun hc37 => ?_) | refine r_if_eq 47 40 dX1_book_37 rfl (by decide) (fun hc37 => ?_) (fun hc37 => ?_)
      · obtain ⟨q, i', n', hq, rfl, rfl, rfl, hin, hl60⟩ := ag_0 hc37 (fun q hq => ((hS.sh k hk).2 q hq).2.2.2.1)
        obtain ⟨h1, l1, h2, l2, h3⟩ := (hS.sh k hk).2 q hq
        refine r_bipush 49 dX1_book_47 rfl bi_60 ?_
        refine r_iload_n 50 dX1_book_49 rfl rfl lo1 ?_
        first | refine r_imulN 51 dX1_book_50 rfl ?_ | refine r_imul 51 dX1_book_50 rfl ?_
        refine r_iload_n 52 dX1_book_51 rfl rfl lo3 ?_
        first | refine r_iaddN 53 dX1_book_52 rfl ?_ | refine r_iadd 53 dX1_book_52 rfl ?_
        refine r_istore 55 dX1_book_53 rfl so6 rfl ?_
        refine r_iconst 56 dX1_book_55 rfl ic_0 ?_
        refine r_istore 58 dX1_book_56 rfl so7 rfl ?_
        have e : sp_book S (nI k) (nI q.1) (nI i') (nI n') = (if anyb (bad (fun t => q.2.2 (i' + t))) n' 0 = true then -2 else bset (fun b => allb (fun t => remz (q.2.2 (i' + t) - q.2.2 (i' + 0)) (nI b)) (n' - 1) 1) 29 2 (nI 0), sF S (nI 0)) := by
          unfold sp_book
          rw [look_ok hk hc18 rfl hc37 hq (by omega) (by omega)]
          split <;> rfl
        rw [e]
        exact lp_X1_book (S' := sF S (nI 0)) (c := fun t => q.2.2 (i' + t)) hm hF (hS.fault (nI 0)) (fun t ht => by rw [Nat.add_assoc]; exact h3 (i' + t) (by omega)) (by omega) (fun u hu => by cases hu; rfl) n' 0 _ _ (by omega) rfl
      · refine r_aload_n 41 dX1_book_40 rfl rfl lo0 ?_
        refine r_iload 43 dX1_book_41 rfl lo5 ?_
        refine rm_i1 46 dX1_book_43 rfl sV_X1_107_1 hm hF (by rfl) (ev_X1_fails hm) (fun A m' hP hm hF => ?_)
        subst hP
        exact r_iret dX1_book_46 rfl (Nat.le_refl _) (Nat.le_refl _) (qm hm hF (by unfold sp_book; rw [look_bad hk hc18 rfl hc37 rfl]; exact ⟨rfl, hS.fault _⟩))
    · refine r_bipush 23 dX1_book_21 rfl bi_m2 ?_
      exact r_iret dX1_book_23 rfl (Nat.le_refl _) (Nat.le_refl _) (qm hm hF (by unfold sp_book; rw [look_out hc9 (Or.inl hc18)]; exact ⟨rfl, hS.fault (nI 0)⟩))
  · refine r_iconst 13 dX1_book_12 rfl ic_m1 ?_
    exact r_iret dX1_book_13 rfl (Nat.le_refl _) (Nat.le_refl _) (qm hm hF (by unfold sp_book; rw [look_no hc9]; exact ⟨rfl, hS.fault (nI 0)⟩))

