/-! THE REFERENCE: round -/
set_option maxRecDepth 100000
set_option maxHeartbeats 4000000 in
theorem lc_X1_round {w : WE} {A0 : Hp} {m : MT} {S : ST} {q : Int32} {f h : Nat} {Z : ZT} {od : Nat → Nat} {s : Nat} {x5 x6 : Int32} (hS : MS m S) (hs2 : 2 ≤ S.1) (K : ∀ (A : Hp) (m3 : MT) (x7 : Option Value), Eqk m m3 → OrdR m3 (S.1 - 1) S.1 od → (∀ k, k < S.1 - 1 → m3.2 21 k = nI (od k)) → MR w A m3 → Fm w A0 A → Rn w mX1_round (rmX 5 0 0) Z 0 0 A 147 [some (.ref (mb w)), some (.int (nI f)), some (.int (nI h)), some (.int q), some (.int (nI s)), some (.int x5), some (.int x6), x7] []) : ∀ (j i : Nat) (A : Hp) (m2 : MT), i + j = S.1 - 1 → Eqk m m2 → OrdR m2 (S.1 - 1) S.1 od → (∀ k, k < i → m2.2 21 k = nI (od k)) → MR w A m2 → Fm w A0 A → Rn w mX1_round (rmX 5 0 0) Z 0 0 A 116 [some (.ref (mb w)), some (.int (nI f)), some (.int (nI h)), some (.int q), some (.int (nI s)), some (.int x5), some (.int x6), some (.int (nI i))] [] := by
  have hi6 := hS.ok.le
  intro j
  induction j with
  | zero =>
    intro i A m2 hij he hO hb hm hF
    have hS2 := hS.eqm he.1
    refine r_iload 118 dX1_round_116 rfl lo7 ?_
    refine r_aload_n 119 dX1_round_118 rfl rfl lo0 ?_
    refine r_getv 122 dX1_round_119 rfl g_X1_86_1 hm.t lo5 hS2.il ?_
    refine r_iconst 123 dX1_round_122 rfl ic_1 ?_
    first | refine r_isubN 124 dX1_round_123 rfl (by omega) ?_ | refine r_isub 124 dX1_round_123 rfl ?_
    first | refine r_icmp_geN 147 127 dX1_round_124 rfl (by decide) (by omega) (by omega) (fun hc124 => ?_) (fun hc124 => ?_) | refine r_icmp_ge 147 127 dX1_round_124 rfl (by decide) (fun hc124 => ?_) (fun hc124 => ?_)
    · exact K A m2 _ he hO (fun k hk => hb k (by omega)) hm hF
    · exact absurd hc124 (by omega)
  | succ j ih =>
    intro i A m2 hij he hO hb hm hF
    have hS2 := hS.eqm he.1
    obtain ⟨o1, o2⟩ := hO i (by omega)
    refine r_iload 118 dX1_round_116 rfl lo7 ?_
    refine r_aload_n 119 dX1_round_118 rfl rfl lo0 ?_
    refine r_getv 122 dX1_round_119 rfl g_X1_86_1 hm.t lo5 hS2.il ?_
    refine r_iconst 123 dX1_round_122 rfl ic_1 ?_
    first | refine r_isubN 124 dX1_round_123 rfl (by omega) ?_ | refine r_isub 124 dX1_round_123 rfl ?_
    first | refine r_icmp_geN 147 127 dX1_round_124 rfl (by decide) (by omega) (by omega) (fun hc124 => ?_) (fun hc124 => ?_) | refine r_icmp_ge 147 127 dX1_round_124 rfl (by decide) (fun hc124 => ?_) (fun hc124 => ?_)
    · exact absurd hc124 (by omega)
    · refine r_aload_n 128 dX1_round_127 rfl rfl lo0 ?_
      refine r_get 131 dX1_round_128 rfl g_X1_70_1 hm.t lo29 ?_
      refine r_iload 133 dX1_round_131 rfl lo7 ?_
      refine r_aload_n 134 dX1_round_133 rfl rfl lo0 ?_
      refine r_get 137 dX1_round_134 rfl g_X1_67_1 hm.t lo28 ?_
      refine r_iload 139 dX1_round_137 rfl lo7 ?_
      refine r_ialdv 140 dX1_round_139 rfl hm.a20 _ rfl o1 (by omega) (by decide) ?_
      refine rm_iast (N := 5) 141 dX1_round_140 rfl hm hF (by decide) (by decide) _ rfl rfl (by omega) (by decide) (fun A hm hF => ?_)
      refine r_iinc 144 dX1_round_141 rfl lo7 inc1 so7 rfl ?_
      refine r_goto 116 dX1_round_144 (by decide) ?_
      have hih := fun a b c => ih (i + 1) A _ (by omega) a b c hm hF
      refine hih (he.arr (by decide)) hO (fun k hk => ?_)
      show upd (m2.2 21) i _ k = _
      by_cases e : k = i
      · subst e
        rw [upd_s]
      · rw [upd_n e]
        exact hb k (by omega)

set_option maxHeartbeats 4000000 in
theorem le_X1_round {w : WE} {A0 : Hp} {m : MT} {S : ST} {q : Int32} {f h : Nat} {A : Hp} {r : Int32} {s : Nat} {b : Nat → Nat} {x6 x7 : Option Value} (hS : MS m S) (hs9 : s ≤ 9999) (hq : btw q.toInt (-1) ((S.1 : Int) - 2) = true) (hB : s < 9999 → ∀ k, k < S.1 - 1 → m.2 21 k = nI (b k)) (hr : r = if s = 9999 then -9 else if q.toInt = -1 then nI s else nI (b q.toInt.toNat)) (hm : MR w A m) (hF : Fm w A0 A) : Rn w mX1_round (rmX 5 0 0) (ZX w (QM w A0 (fun v m' => v = some (.int r) ∧ MS m' S)) 0 0) 0 0 A 89 [some (.ref (mb w)), some (.int (nI f)), some (.int (nI h)), some (.int q), some (.int (nI s)), some (.int (bI false)), x6, x7] [] := by
  have hi6 := hS.ok.le
  have hq1 := btw_t.mp hq
  refine r_iload 91 dX1_round_89 rfl lo5 ?_
  refine r_if_eqB 162 94 dX1_round_91 rfl (by decide) (fun hc91 => ?_) (fun hc91 => ?_)
  · refine r_iload 164 dX1_round_162 rfl lo4 ?_
    refine r_sipush 167 dX1_round_164 rfl si_9999 ?_
    first | refine r_icmp_neN 175 170 dX1_round_167 rfl (by decide) (by omega) (by omega) (fun hc167 => ?_) (fun hc167 => ?_) | refine r_icmp_ne 175 170 dX1_round_167 rfl (by decide) (fun hc167 => ?_) (fun hc167 => ?_)
    · refine r_iload_n 176 dX1_round_175 rfl rfl lo3 ?_
      refine r_iconst 177 dX1_round_176 rfl ic_m1 ?_
      refine r_icmp_ne 185 180 dX1_round_177 rfl (by decide) (fun hc177 => ?_) (fun hc177 => ?_)
      · refine r_aload_n 186 dX1_round_185 rfl rfl lo0 ?_
        refine r_get 189 dX1_round_186 rfl g_X1_70_1 hm.t lo29 ?_
        refine r_iload_n 190 dX1_round_189 rfl rfl lo3 ?_
        obtain ⟨z, z1, rfl, z3⟩ := i_nat (x := q) (by have : ¬ q.toInt = -1 := fun e => hc177 (i_eq.mpr (by rw [e, im1])); omega)
        refine r_ialdv 191 dX1_round_190 rfl hm.a21 _ rfl (hB (by omega) z (by omega)) (by omega) (by decide) ?_
        exact r_iret dX1_round_191 rfl (Nat.le_refl _) (Nat.le_refl _) (qm hm hF ⟨rq (by rw [hr]; first | rw [if_pos hc167] | (rw [if_neg hc167]; first | (have hx : q.toInt = -1 := by { have := i_eq.mp hc177; rw [im1] at this; exact this }; rw [if_pos hx]) | rw [if_neg (by rw [z3]; omega), z3]; rfl)), hS⟩)
      · refine r_iload 182 dX1_round_180 rfl lo4 ?_
        refine r_goto 191 dX1_round_182 (by decide) ?_
        exact r_iret dX1_round_191 rfl (Nat.le_refl _) (Nat.le_refl _) (qm hm hF ⟨rq (by rw [hr]; first | rw [if_pos hc167] | (rw [if_neg hc167]; first | (have hx : q.toInt = -1 := by { have := i_eq.mp hc177; rw [im1] at this; exact this }; rw [if_pos hx]) | rw [if_neg (by rw [z3]; omega), z3]; rfl)), hS⟩)
    · refine r_bipush 172 dX1_round_170 rfl bi_m9 ?_
      refine r_goto 191 dX1_round_172 (by decide) ?_
      exact r_iret dX1_round_191 rfl (Nat.le_refl _) (Nat.le_refl _) (qm hm hF ⟨rq (by rw [hr]; first | rw [if_pos hc167] | (rw [if_neg hc167]; first | (have hx : q.toInt = -1 := by { have := i_eq.mp hc177; rw [im1] at this; exact this }; rw [if_pos hx]) | rw [if_neg (by rw [z3]; omega), z3]; rfl)), hS⟩)
  · exact absurd hc91 (by decide)

set_option maxHeartbeats 4000000 in
theorem ln_X1_round {w : WE} {A0 : Hp} {m : MT} {S : ST} {q : Int32} {f h : Nat} {Z : ZT} {od b : Nat → Nat} {s : Nat} (hS : MS m S) (hs2 : 2 ≤ S.1) (hod : ∀ k, k < S.1 - 1 → od k < S.1)
    (IH : 0 < fp od (S.1 - 1 - 1) → ∀ (A : Hp) (m4 : MT) (x6 x7 : Option Value), Eqk m m4 → (∀ k, k < S.1 - 1 → m4.2 20 k = nI (nxo (S.1 - 1) od k)) → (s < 9999 → ∀ k, k < S.1 - 1 → m4.2 21 k = nI (b k)) → MR w A m4 → Fm w A0 A → Rn w mX1_round (rmX 5 0 0) Z 0 0 A 89 [some (.ref (mb w)), some (.int (nI f)), some (.int (nI h)), some (.int q), some (.int (nI s)), some (.int (bI true)), x6, x7] [])
    (IE : ¬ 0 < fp od (S.1 - 1 - 1) → ∀ (A : Hp) (m4 : MT) (x6 x7 : Option Value), Eqk m m4 → (s < 9999 → ∀ k, k < S.1 - 1 → m4.2 21 k = nI (b k)) → MR w A m4 → Fm w A0 A → Rn w mX1_round (rmX 5 0 0) Z 0 0 A 89 [some (.ref (mb w)), some (.int (nI f)), some (.int (nI h)), some (.int q), some (.int (nI s)), some (.int (bI false)), x6, x7] [])
    {A : Hp} {m3 : MT} {x6 x7 x5 : Option Value} (he : Eqk m m3) (hO : ∀ k, k < S.1 - 1 → m3.2 20 k = nI (od k)) (hB : s < 9999 → ∀ k, k < S.1 - 1 → m3.2 21 k = nI (b k)) (hm : MR w A m3) (hF : Fm w A0 A) : Rn w mX1_round (rmX 5 0 0) Z 0 0 A 147 [some (.ref (mb w)), some (.int (nI f)), some (.int (nI h)), some (.int q), some (.int (nI s)), x5, x6, x7] [] := by
  have hi6 := hS.ok.le
  have hS3 := hS.eqm he.1
  refine r_aload_n 148 dX1_round_147 rfl rfl lo0 ?_
  refine r_aload_n 149 dX1_round_148 rfl rfl lo0 ?_
  refine r_getv 152 dX1_round_149 rfl g_X1_86_1 hm.t lo5 hS3.il ?_
  refine r_iconst 153 dX1_round_152 rfl ic_1 ?_
  first | refine r_isubN 154 dX1_round_153 rfl (by omega) ?_ | refine r_isub 154 dX1_round_153 rfl ?_
  refine rm_i1 157 dX1_round_154 rfl sV_X1_200_1 hm hF (by rfl) (ev_X1_nextOrder (n := S.1 - 1) (od := od) hm (by omega) (by omega) (fun k hk => ⟨hO k hk, by have := hod k hk; omega⟩)) (fun A m' hP hm hF => ?_)
  obtain ⟨g2, rfl, hg2⟩ := hP
  refine r_istore 159 dX1_round_157 rfl so5 rfl ?_
  refine r_goto 89 dX1_round_159 (by decide) ?_
  by_cases hfp : 0 < fp od (S.1 - 1 - 1)
  · rw [show decide (0 < fp od (S.1 - 1 - 1)) = true from decide_eq_true hfp]
    rw [if_pos hfp] at hg2
    exact IH hfp A (m3.1, va_up m3.2 20 g2) _ _ (he.arr (by decide)) hg2 hB hm hF
  · rw [show decide (0 < fp od (S.1 - 1 - 1)) = false from decide_eq_false hfp]
    exact IE hfp A (m3.1, va_up m3.2 20 g2) _ _ (he.arr (by decide)) hB hm hF

set_option maxHeartbeats 4000000 in
theorem lp_X1_round {w : WE} {A0 : Hp} {m : MT} {S : ST} {q : Int32} {f h : Nat} {r : Int32} (hS : MS m S) (hJ : JR m S.2.1 S.2.2.1 false) (hs2 : 2 ≤ S.1) (hf : f < S.1) (hh : h ≤ 1999) (hq : btw q.toInt (-1) ((S.1 : Int) - 2) = true) : ∀ (j : Nat) (od : Nat → Nat) (s : Nat) (b : Nat → Nat) (A : Hp) (m2 : MT) (x6 x7 : Option Value), trm (S.1 - 1) j od → s ≤ 9999 → (∀ k, k < S.1 - 1 → od k < S.1) → Eqk m m2 → (∀ k, k < S.1 - 1 → m2.2 20 k = nI (od k)) → (s < 9999 → ∀ k, k < S.1 - 1 → m2.2 21 k = nI (b k)) → (r = let z := rdl (S.1 - 1) (OS S f h) j od s b; if z.1 = 9999 then -9 else if q.toInt = -1 then nI z.1 else nI (z.2 q.toInt.toNat)) → (∀ od' : Nat → Nat, (∀ k, k < S.1 - 1 → od' k < S.1) → ∀ k, k < S.1 - 1 → nxo (S.1 - 1) od' k < S.1) → MR w A m2 → Fm w A0 A → Rn w mX1_round (rmX 5 0 0) (ZX w (QM w A0 (fun v m' => v = some (.int r) ∧ MS m' S)) 0 0) 0 0 A 89 [some (.ref (mb w)), some (.int (nI f)), some (.int (nI h)), some (.int q), some (.int (nI s)), some (.int (bI true)), x6, x7] [] := by
  have hi6 := hS.ok.le
  intro j
  induction j with
  | zero => intro od s b A m2 x6 x7 ht; exact ht.elim
  | succ j ih =>
    intro od s b A m2 x6 x7 ht hs9 hod he hO hB hr hcl hm hF
    have hS2 := hS.eqm he.1
    have hov : OS S f h od ≤ 9999 := ovb_le _ _ _ _ (by omega)
    refine r_iload 91 dX1_round_89 rfl lo5 ?_
    refine r_if_eqB 162 94 dX1_round_91 rfl (by decide) (fun hc91 => ?_) (fun hc91 => ?_)
    · exact absurd hc91 (by decide)
    · refine r_aload_n 95 dX1_round_94 rfl rfl lo0 ?_
      refine r_iload_n 96 dX1_round_95 rfl rfl lo1 ?_
      refine r_iload_n 97 dX1_round_96 rfl rfl lo2 ?_
      refine rm_i2 100 dX1_round_97 rfl sV_X1_197_1 hm hF (by rfl) (ev_X1_overBy (S := S) (od := od) (f := f) (h := h) hm hS2 (hJ.eq he.2.1 he.2.2) (fun k hk => ⟨hO k hk, hod k hk⟩) hs2 hf (by omega)) (fun A m' hP hm hF => ?_)
      obtain ⟨g, rfl⟩ := hP
      rw [show ovb (fun f t x => bfS S false f t x) od S.1 (S.1 - 1) 0 f h = OS S f h od from rfl]
      refine r_istore 102 dX1_round_100 rfl so6 rfl ?_
      refine r_iload 104 dX1_round_102 rfl lo6 ?_
      refine r_iload 106 dX1_round_104 rfl lo4 ?_
      first | refine r_icmp_geN 147 109 dX1_round_106 rfl (by decide) (by omega) (by omega) (fun hc106 => ?_) (fun hc106 => ?_) | refine r_icmp_ge 147 109 dX1_round_106 rfl (by decide) (fun hc106 => ?_) (fun hc106 => ?_)
      · refine ln_X1_round (od := od) (s := s) (b := b) hS hs2 hod (fun hfp A m4 x6 x7 he4 hO4 hB4 hm hF => ?_) (fun hfp A m4 x6 x7 he4 hB4 hm hF => ?_) (m3 := (m2.1, va_up m2.2 18 g)) (he.arr (by decide)) hO hB hm hF
        · exact ih (nxo (S.1 - 1) od) (s) (b) A m4 x6 x7 (ht.2 hfp) (by omega) (hcl od hod) he4 hO4 hB4 (by rw [hr, rdl_t hfp, if_neg (Nat.not_lt.mpr hc106), if_neg (Nat.not_lt.mpr hc106)]) hcl hm hF
        · exact le_X1_round (hS.eqm he4.1) (by omega) hq hB4 (by rw [hr, rdl_f hfp, if_neg (Nat.not_lt.mpr hc106), if_neg (Nat.not_lt.mpr hc106)]) hm hF
      · refine r_iload 111 dX1_round_109 rfl lo6 ?_
        refine r_istore 113 dX1_round_111 rfl so4 rfl ?_
        refine r_iconst 114 dX1_round_113 rfl ic_0 ?_
        refine r_istore 116 dX1_round_114 rfl so7 rfl ?_
        refine lc_X1_round (od := od) (m := m) hS hs2 (fun A m3 x7 he3 hO3 hB3 hm hF => ?_) (S.1 - 1) 0 A (m2.1, va_up m2.2 18 g) (by omega) (he.arr (by decide)) (fun k hk => ⟨hO k hk, hod k hk⟩) (fun k hk => absurd hk (by omega)) hm hF
        refine ln_X1_round (od := od) (s := OS S f h od) (b := od) hS hs2 hod (fun hfp A m4 x6 x7 he4 hO4 hB4 hm hF => ?_) (fun hfp A m4 x6 x7 he4 hB4 hm hF => ?_) he3 (fun k hk => (hO3 k hk).1) (fun _ => hB3) hm hF
        · exact ih (nxo (S.1 - 1) od) (OS S f h od) (od) A m4 x6 x7 (ht.2 hfp) (by omega) (hcl od hod) he4 hO4 hB4 (by rw [hr, rdl_t hfp, if_pos hc106, if_pos hc106]) hcl hm hF
        · exact le_X1_round (hS.eqm he4.1) (by omega) hq hB4 (by rw [hr, rdl_f hfp, if_pos hc106, if_pos hc106]) hm hF

set_option maxHeartbeats 4000000 in
theorem l0_X1_round {w : WE} {A0 : Hp} {m : MT} {S : ST} {q : Int32} {f h : Nat} {r : Int32} {x5 x6 x7 : Option Value} (hS : MS m S) (hJ : JR m S.2.1 S.2.2.1 false) (hs2 : 2 ≤ S.1) (hf : f < S.1) (hh : h ≤ 1999) (hq : btw q.toInt (-1) ((S.1 : Int) - 2) = true) (ht : trm (S.1 - 1) 130 (od0 f)) (hcl : ∀ od' : Nat → Nat, (∀ k, k < S.1 - 1 → od' k < S.1) → ∀ k, k < S.1 - 1 → nxo (S.1 - 1) od' k < S.1) (hr : r = if (rdS S f h).1 = 9999 then -9 else if q.toInt = -1 then nI (rdS S f h).1 else nI ((rdS S f h).2 q.toInt.toNat)) : ∀ (j i : Nat) (A : Hp) (m2 : MT), i + j = S.1 - 1 → Eqk m m2 → (∀ k, k < i → m2.2 20 k = nI (od0 f k)) → MR w A m2 → Fm w A0 A → Rn w mX1_round (rmX 5 0 0) (ZX w (QM w A0 (fun v m' => v = some (.int r) ∧ MS m' S)) 0 0) 0 0 A 42 [some (.ref (mb w)), some (.int (nI f)), some (.int (nI h)), some (.int q), some (.int (nI i)), x5, x6, x7] [] := by
  have hi6 := hS.ok.le
  intro j
  induction j with
  | zero =>
    intro i A m2 hij he hO hm hF
    have hS2 := hS.eqm he.1
    refine r_iload 44 dX1_round_42 rfl lo4 ?_
    refine r_aload_n 45 dX1_round_44 rfl rfl lo0 ?_
    refine r_getv 48 dX1_round_45 rfl g_X1_86_1 hm.t lo5 hS2.il ?_
    refine r_iconst 49 dX1_round_48 rfl ic_1 ?_
    first | refine r_isubN 50 dX1_round_49 rfl (by omega) ?_ | refine r_isub 50 dX1_round_49 rfl ?_
    first | refine r_icmp_geN 81 53 dX1_round_50 rfl (by decide) (by omega) (by omega) (fun hc50 => ?_) (fun hc50 => ?_) | refine r_icmp_ge 81 53 dX1_round_50 rfl (by decide) (fun hc50 => ?_) (fun hc50 => ?_)
    · refine r_sipush 84 dX1_round_81 rfl si_9999 ?_
      refine r_istore 86 dX1_round_84 rfl so4 rfl ?_
      refine r_iconst 87 dX1_round_86 rfl ic_1 ?_
      refine r_istore 89 dX1_round_87 rfl so5 rfl ?_
      exact lp_X1_round hS hJ hs2 hf hh hq 130 (od0 f) 9999 (fun _ => 0) A m2 _ _ ht (Nat.le_refl _) (fun k hk => by unfold od0; split <;> omega) he (fun k hk => hO k (by omega)) (fun h => absurd h (by omega)) hr hcl hm hF
    · exact absurd hc50 (by omega)
  | succ j ih =>
    intro i A m2 hij he hO hm hF
    have hS2 := hS.eqm he.1
    refine r_iload 44 dX1_round_42 rfl lo4 ?_
    refine r_aload_n 45 dX1_round_44 rfl rfl lo0 ?_
    refine r_getv 48 dX1_round_45 rfl g_X1_86_1 hm.t lo5 hS2.il ?_
    refine r_iconst 49 dX1_round_48 rfl ic_1 ?_
    first | refine r_isubN 50 dX1_round_49 rfl (by omega) ?_ | refine r_isub 50 dX1_round_49 rfl ?_
    first | refine r_icmp_geN 81 53 dX1_round_50 rfl (by decide) (by omega) (by omega) (fun hc50 => ?_) (fun hc50 => ?_) | refine r_icmp_ge 81 53 dX1_round_50 rfl (by decide) (fun hc50 => ?_) (fun hc50 => ?_)
    · exact absurd hc50 (by omega)
    · refine r_aload_n 54 dX1_round_53 rfl rfl lo0 ?_
      refine r_get 57 dX1_round_54 rfl g_X1_67_1 hm.t lo28 ?_
      refine r_iload 59 dX1_round_57 rfl lo4 ?_
      refine r_iload 61 dX1_round_59 rfl lo4 ?_
      refine r_iload_n 62 dX1_round_61 rfl rfl lo1 ?_
      first | refine r_icmp_geN 70 65 dX1_round_62 rfl (by decide) (by omega) (by omega) (fun hc62 => ?_) (fun hc62 => ?_) | refine r_icmp_ge 70 65 dX1_round_62 rfl (by decide) (fun hc62 => ?_) (fun hc62 => ?_)
      · refine r_iload 72 dX1_round_70 rfl lo4 ?_
        refine r_iconst 73 dX1_round_72 rfl ic_1 ?_
        first | refine r_iaddN 74 dX1_round_73 rfl ?_ | refine r_iadd 74 dX1_round_73 rfl ?_
        refine rm_iast (N := 5) 75 dX1_round_74 rfl hm hF (by decide) (by decide) _ rfl rfl (by omega) (by decide) (fun A hm hF => ?_)
        refine r_iinc 78 dX1_round_75 rfl lo4 inc1 so4 rfl ?_
        refine r_goto 42 dX1_round_78 (by decide) ?_
        have hih := fun a b => ih (i + 1) A _ (by omega) a b hm hF
        refine hih (he.arr (by decide)) (fun k hk => ?_)
        show upd (m2.2 20) i _ k = _
        by_cases e : k = i
        · subst e
          rw [upd_s]
          unfold od0
          first | rw [if_pos hc62] | rw [if_neg (Nat.not_lt.mpr hc62)]
        · rw [upd_n e]
          exact hO k (by omega)
      · refine r_iload 67 dX1_round_65 rfl lo4 ?_
        refine r_goto 74 dX1_round_67 (by decide) ?_
        refine rm_iast (N := 5) 75 dX1_round_74 rfl hm hF (by decide) (by decide) _ rfl rfl (by omega) (by decide) (fun A hm hF => ?_)
        refine r_iinc 78 dX1_round_75 rfl lo4 inc1 so4 rfl ?_
        refine r_goto 42 dX1_round_78 (by decide) ?_
        have hih := fun a b => ih (i + 1) A _ (by omega) a b hm hF
        refine hih (he.arr (by decide)) (fun k hk => ?_)
        show upd (m2.2 20) i _ k = _
        by_cases e : k = i
        · subst e
          rw [upd_s]
          unfold od0
          first | rw [if_pos hc62] | rw [if_neg (Nat.not_lt.mpr hc62)]
        · rw [upd_n e]
          exact hO k (by omega)

