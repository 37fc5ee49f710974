/-! THE REFERENCE: crossings -/
set_option maxRecDepth 100000
set_option maxHeartbeats 4000000 in
theorem lp_X1_layRoad {w : WE} {A0 : Hp} {m : MT} {S : ST} {r : Nat} {q : Rd} {herd : Bool} (hS : MS m S) (hq : S.2.2.1[r]? = some q) : ∀ (h1 s : Nat) (A : Hp) (f : Nat → Int32), h1 ≤ 2000 → s = rn S.2.1 q (2000 - h1) → (∀ t, h1 ≤ t → t ≤ 2000 → f (2001 * r + t) = nI (en (stt S.2.1 q (tkO herd q) t))) → (∀ p, p < 2001 * r ∨ 2001 * r + 2000 < p → f p = m.2 16 p) → MR w A (m.1, va_up (va_up m.2 17 (upd (m.2 17) r (nI (tkO herd q)))) 16 f) → Fm w A0 A → Rn w mX1_layRoad (rmX 3 0 0) (ZX w (QM w A0 (fun v m' => v = none ∧ (fun m' => ∃ f : Nat → Int32, m' = (m.1, va_up (va_up m.2 17 (upd (m.2 17) r (nI (tkO herd q)))) 16 f) ∧ (∀ t, t ≤ 2000 → f (2001 * r + t) = nI (en (stt S.2.1 q (tkO herd q) t))) ∧ ∀ p, p < 2001 * r ∨ 2001 * r + 2000 < p → f p = m.2 16 p) m')) 0 0) 0 0 A 54 [some (.ref (mb w)), some (.int (nI r)), some (.int (bI herd)), some (.int (nI (2001 * r))), some (.int (nI s)), some (.int (nI h1 + Int32.ofInt (-1)))] [] := by
  have hr10 : r < 10 := by
    have := (List.getElem?_eq_some_iff.mp hq).1
    have := hS.rd.2.1
    omega
  obtain ⟨h10, h11, h12, h13, h14, h15, hok⟩ := hS.rd.2.2 r q hq
  have htk := tkO_le (herd := herd) hok
  intro h1
  induction h1 with
  | zero =>
    intro s A f hh hs hf hg hm hF
    refine r_iload 56 dX1_layRoad_54 rfl lo5 ?_
    refine r_if_lt 121 59 dX1_layRoad_56 rfl (by decide) (fun hc56 => ?_) (fun hc56 => ?_)
    · exact r_vret dX1_layRoad_121 rfl (Nat.le_refl _) (Nat.le_refl _) (qm hm hF ⟨rfl, f, rfl, fun t ht => hf t (Nat.zero_le _) ht, hg⟩)
    · exact absurd (by decide) hc56
  | succ h ih =>
    intro s A f hh hs hf hg hm hF
    rw [show nI (h + 1) + Int32.ofInt (-1) = nI h from incm1]
    have hrs := rn_step (ms := S.2.1) (q := q) (h := h) (by omega)
    have hss := stt_step (ms := S.2.1) (q := q) (tk := tkO herd q) (h := h) (by omega)
    have hs2 := rn_le S.2.1 q (2000 - (h + 1))
    rw [← hs] at hrs hs2
    have hb := en_le (ms := S.2.1) (q := q) (tk := tkO herd q) (h := h + 1) (by omega)
    refine r_iload 56 dX1_layRoad_54 rfl lo5 ?_
    first | refine r_if_ltN 121 59 dX1_layRoad_56 rfl (by decide) (by omega) (fun hc56 => ?_) (fun hc56 => ?_) | refine r_if_lt 121 59 dX1_layRoad_56 rfl (by decide) (fun hc56 => ?_) (fun hc56 => ?_)
    · exact absurd hc56 (by omega)
    · refine r_aload_n 60 dX1_layRoad_59 rfl rfl lo0 ?_
      refine r_iload_n 61 dX1_layRoad_60 rfl rfl lo1 ?_
      refine r_iload 63 dX1_layRoad_61 rfl lo5 ?_
      refine r_cV2 66 dX1_layRoad_63 rfl sV_X1_159_1 hm.t (by rfl) (ev_X1_isDry (ms := S.2.1) (isl := S.1) (rs := S.2.2.1) (q := q) hm hS.mo hS.rd hq (by omega)) ?_
      refine r_if_eqB 76 69 dX1_layRoad_66 rfl (by decide) (fun hc66 => ?_) (fun hc66 => ?_)
      · rw [if_neg (by rw [hc66]; decide)] at hrs
        refine r_iconst 77 dX1_layRoad_76 rfl ic_0 ?_
        refine r_istore 79 dX1_layRoad_77 rfl so4 rfl ?_
        refine r_aload_n 80 dX1_layRoad_79 rfl rfl lo0 ?_
        refine r_get 83 dX1_layRoad_80 rfl g_X1_55_1 hm.t lo23 ?_
        refine r_iload_n 84 dX1_layRoad_83 rfl rfl lo3 ?_
        refine r_iload 86 dX1_layRoad_84 rfl lo5 ?_
        first | refine r_iaddN 87 dX1_layRoad_86 rfl ?_ | refine r_iadd 87 dX1_layRoad_86 rfl ?_
        refine r_iload 89 dX1_layRoad_87 rfl lo4 ?_
        refine r_aload_n 90 dX1_layRoad_89 rfl rfl lo0 ?_
        refine r_get 93 dX1_layRoad_90 rfl g_X1_58_1 hm.t lo24 ?_
        refine r_iload_n 94 dX1_layRoad_93 rfl rfl lo1 ?_
        refine r_ialdv 95 dX1_layRoad_94 rfl hm.a17 _ rfl (show upd (m.2 17) r (nI (tkO herd q)) r = nI (tkO herd q) from upd_s) (by omega) (by decide) ?_
        first | refine r_icmp_ltN 103 98 dX1_layRoad_95 rfl (by decide) (by omega) (by omega) (fun hc95 => ?_) (fun hc95 => ?_) | refine r_icmp_lt 103 98 dX1_layRoad_95 rfl (by decide) (fun hc95 => ?_) (fun hc95 => ?_)
        · refine r_aload_n 104 dX1_layRoad_103 rfl rfl lo0 ?_
          refine r_get 107 dX1_layRoad_104 rfl g_X1_55_1 hm.t lo23 ?_
          refine r_iload_n 108 dX1_layRoad_107 rfl rfl lo3 ?_
          refine r_iload 110 dX1_layRoad_108 rfl lo5 ?_
          first | refine r_iaddN 111 dX1_layRoad_110 rfl ?_ | refine r_iadd 111 dX1_layRoad_110 rfl ?_
          refine r_iconst 112 dX1_layRoad_111 rfl ic_1 ?_
          first | refine r_iaddN 113 dX1_layRoad_112 rfl ?_ | refine r_iadd 113 dX1_layRoad_112 rfl ?_
          refine r_ialdv 114 dX1_layRoad_113 rfl hm.a16 _ rfl (show f (2001 * r + h + 1) = _ from hf (h + 1) (by omega) (by omega)) (by omega) (by decide) ?_
          refine rm_iast (N := 20010) 115 dX1_layRoad_114 rfl hm hF (by decide) (by decide) _ rfl rfl (by omega) (by decide) (fun A hm hF => ?_)
          rw [bx_uu] at hm
          refine r_iinc 118 dX1_layRoad_115 rfl lo5 rfl so5 rfl ?_
          refine r_goto 54 dX1_layRoad_118 (by decide) ?_
          refine ih _ A _ (by omega) (by first | exact hrs.symm | omega) (fun t h1 h2 => ?_) (fun p hp => ?_) hm hF
          · by_cases e : t = h
            · subst e
              show upd f (2001 * r + t) _ (2001 * r + t) = _
              rw [upd_s, hss]
              first | (rw [if_pos (by omega)]; rfl) | rw [if_neg (by omega)]
            · show upd f (2001 * r + h) _ (2001 * r + t) = _
              rw [upd_n (by omega)]
              exact hf t (by omega) h2
          · show upd f (2001 * r + h) _ p = _
            rw [upd_n (by omega)]
            exact hg p hp
        · refine r_iload 100 dX1_layRoad_98 rfl lo5 ?_
          refine r_goto 114 dX1_layRoad_100 (by decide) ?_
          refine rm_iast (N := 20010) 115 dX1_layRoad_114 rfl hm hF (by decide) (by decide) _ rfl rfl (by omega) (by decide) (fun A hm hF => ?_)
          rw [bx_uu] at hm
          refine r_iinc 118 dX1_layRoad_115 rfl lo5 rfl so5 rfl ?_
          refine r_goto 54 dX1_layRoad_118 (by decide) ?_
          refine ih _ A _ (by omega) (by first | exact hrs.symm | omega) (fun t h1 h2 => ?_) (fun p hp => ?_) hm hF
          · by_cases e : t = h
            · subst e
              show upd f (2001 * r + t) _ (2001 * r + t) = _
              rw [upd_s, hss]
              first | (rw [if_pos (by omega)]; rfl) | rw [if_neg (by omega)]
            · show upd f (2001 * r + h) _ (2001 * r + t) = _
              rw [upd_n (by omega)]
              exact hf t (by omega) h2
          · show upd f (2001 * r + h) _ p = _
            rw [upd_n (by omega)]
            exact hg p hp
      · rw [if_pos hc66] at hrs
        refine r_iload 71 dX1_layRoad_69 rfl lo4 ?_
        refine r_iconst 72 dX1_layRoad_71 rfl ic_1 ?_
        first | refine r_iaddN 73 dX1_layRoad_72 rfl ?_ | refine r_iadd 73 dX1_layRoad_72 rfl ?_
        refine r_goto 77 dX1_layRoad_73 (by decide) ?_
        refine r_istore 79 dX1_layRoad_77 rfl so4 rfl ?_
        refine r_aload_n 80 dX1_layRoad_79 rfl rfl lo0 ?_
        refine r_get 83 dX1_layRoad_80 rfl g_X1_55_1 hm.t lo23 ?_
        refine r_iload_n 84 dX1_layRoad_83 rfl rfl lo3 ?_
        refine r_iload 86 dX1_layRoad_84 rfl lo5 ?_
        first | refine r_iaddN 87 dX1_layRoad_86 rfl ?_ | refine r_iadd 87 dX1_layRoad_86 rfl ?_
        refine r_iload 89 dX1_layRoad_87 rfl lo4 ?_
        refine r_aload_n 90 dX1_layRoad_89 rfl rfl lo0 ?_
        refine r_get 93 dX1_layRoad_90 rfl g_X1_58_1 hm.t lo24 ?_
        refine r_iload_n 94 dX1_layRoad_93 rfl rfl lo1 ?_
        refine r_ialdv 95 dX1_layRoad_94 rfl hm.a17 _ rfl (show upd (m.2 17) r (nI (tkO herd q)) r = nI (tkO herd q) from upd_s) (by omega) (by decide) ?_
        first | refine r_icmp_ltN 103 98 dX1_layRoad_95 rfl (by decide) (by omega) (by omega) (fun hc95 => ?_) (fun hc95 => ?_) | refine r_icmp_lt 103 98 dX1_layRoad_95 rfl (by decide) (fun hc95 => ?_) (fun hc95 => ?_)
        · refine r_aload_n 104 dX1_layRoad_103 rfl rfl lo0 ?_
          refine r_get 107 dX1_layRoad_104 rfl g_X1_55_1 hm.t lo23 ?_
          refine r_iload_n 108 dX1_layRoad_107 rfl rfl lo3 ?_
          refine r_iload 110 dX1_layRoad_108 rfl lo5 ?_
          first | refine r_iaddN 111 dX1_layRoad_110 rfl ?_ | refine r_iadd 111 dX1_layRoad_110 rfl ?_
          refine r_iconst 112 dX1_layRoad_111 rfl ic_1 ?_
          first | refine r_iaddN 113 dX1_layRoad_112 rfl ?_ | refine r_iadd 113 dX1_layRoad_112 rfl ?_
          refine r_ialdv 114 dX1_layRoad_113 rfl hm.a16 _ rfl (show f (2001 * r + h + 1) = _ from hf (h + 1) (by omega) (by omega)) (by omega) (by decide) ?_
          refine rm_iast (N := 20010) 115 dX1_layRoad_114 rfl hm hF (by decide) (by decide) _ rfl rfl (by omega) (by decide) (fun A hm hF => ?_)
          rw [bx_uu] at hm
          refine r_iinc 118 dX1_layRoad_115 rfl lo5 rfl so5 rfl ?_
          refine r_goto 54 dX1_layRoad_118 (by decide) ?_
          refine ih _ A _ (by omega) (by first | exact hrs.symm | omega) (fun t h1 h2 => ?_) (fun p hp => ?_) hm hF
          · by_cases e : t = h
            · subst e
              show upd f (2001 * r + t) _ (2001 * r + t) = _
              rw [upd_s, hss]
              first | (rw [if_pos (by omega)]; rfl) | rw [if_neg (by omega)]
            · show upd f (2001 * r + h) _ (2001 * r + t) = _
              rw [upd_n (by omega)]
              exact hf t (by omega) h2
          · show upd f (2001 * r + h) _ p = _
            rw [upd_n (by omega)]
            exact hg p hp
        · refine r_iload 100 dX1_layRoad_98 rfl lo5 ?_
          refine r_goto 114 dX1_layRoad_100 (by decide) ?_
          refine rm_iast (N := 20010) 115 dX1_layRoad_114 rfl hm hF (by decide) (by decide) _ rfl rfl (by omega) (by decide) (fun A hm hF => ?_)
          rw [bx_uu] at hm
          refine r_iinc 118 dX1_layRoad_115 rfl lo5 rfl so5 rfl ?_
          refine r_goto 54 dX1_layRoad_118 (by decide) ?_
          refine ih _ A _ (by omega) (by first | exact hrs.symm | omega) (fun t h1 h2 => ?_) (fun p hp => ?_) hm hF
          · by_cases e : t = h
            · subst e
              show upd f (2001 * r + t) _ (2001 * r + t) = _
              rw [upd_s, hss]
              first | (rw [if_pos (by omega)]; rfl) | rw [if_neg (by omega)]
            · show upd f (2001 * r + h) _ (2001 * r + t) = _
              rw [upd_n (by omega)]
              exact hf t (by omega) h2
          · show upd f (2001 * r + h) _ p = _
            rw [upd_n (by omega)]
            exact hg p hp

set_option maxHeartbeats 4000000 in
theorem ev_X1_layRoad {w : WE} {A : Hp} {m : MT} {S : ST} {r : Nat} {q : Rd} {herd : Bool} (hm : MR w A m) (hS : MS m S) (hq : S.2.2.1[r]? = some q) : EvMv w mX1_layRoad 3 [.ref (mb w), .int (nI r), .int (bI herd)] A (fun m' => ∃ f : Nat → Int32, m' = (m.1, va_up (va_up m.2 17 (upd (m.2 17) r (nI (tkO herd q)))) 16 f) ∧ (∀ t, t ≤ 2000 → f (2001 * r + t) = nI (en (stt S.2.1 q (tkO herd q) t))) ∧ ∀ p, p < 2001 * r ∨ 2001 * r + 2000 < p → f p = m.2 16 p) := by
  refine Ev.mk 3 [some (.ref (mb w)), some (.int (nI r)), some (.int (bI herd)), none, none, none] rfl plX1 (Nat.le_of_ble_eq_true rfl) ?_
  have hF : Fm w A A := Fm.rf
  have hr10 : r < 10 := by
    have := (List.getElem?_eq_some_iff.mp hq).1
    have := hS.rd.2.1
    omega
  obtain ⟨h10, h11, h12, h13, h14, h15, hok⟩ := hS.rd.2.2 r q hq
  have htk := tkO_le (herd := herd) hok
  have hy : tkO herd q = if herd = true then 2 * q.2.2.2.2.1 else q.2.2.2.2.1 := rfl
  refine r_sipush 3 dX1_layRoad_0 rfl si_2001 ?_
  refine r_iload_n 4 dX1_layRoad_3 rfl rfl lo1 ?_
  first | refine r_imulN 5 dX1_layRoad_4 rfl ?_ | refine r_imul 5 dX1_layRoad_4 rfl ?_
  refine r_istore_n 6 dX1_layRoad_5 rfl rfl so3 rfl ?_
  refine r_aload_n 7 dX1_layRoad_6 rfl rfl lo0 ?_
  refine r_get 10 dX1_layRoad_7 rfl g_X1_58_1 hm.t lo24 ?_
  refine r_iload_n 11 dX1_layRoad_10 rfl rfl lo1 ?_
  refine r_iload_n 12 dX1_layRoad_11 rfl rfl lo2 ?_
  refine r_if_eqB 26 15 dX1_layRoad_12 rfl (by decide) (fun hc12 => ?_) (fun hc12 => ?_)
  · rw [if_neg (by rw [hc12]; decide)] at hy
    refine r_aload_n 27 dX1_layRoad_26 rfl rfl lo0 ?_
    refine r_get 30 dX1_layRoad_27 rfl g_X1_49_1 hm.t lo21 ?_
    refine r_iload_n 31 dX1_layRoad_30 rfl rfl lo1 ?_
    refine r_ialdv 32 dX1_layRoad_31 rfl hm.a14 _ rfl h14 (by omega) (by decide) ?_
    refine rm_iast (N := 10) 33 dX1_layRoad_32 rfl hm hF (by decide) (by decide) _ rfl rfl (by omega) (by decide) (fun A hm hF => ?_)
    rw [← hy] at hm
    refine r_aload_n 34 dX1_layRoad_33 rfl rfl lo0 ?_
    refine r_get 37 dX1_layRoad_34 rfl g_X1_55_1 hm.t lo23 ?_
    refine r_iload_n 38 dX1_layRoad_37 rfl rfl lo3 ?_
    refine r_sipush 41 dX1_layRoad_38 rfl si_2000 ?_
    first | refine r_iaddN 42 dX1_layRoad_41 rfl ?_ | refine r_iadd 42 dX1_layRoad_41 rfl ?_
    refine r_sipush 45 dX1_layRoad_42 rfl si_9999 ?_
    refine rm_iast (N := 20010) 46 dX1_layRoad_45 rfl hm hF (by decide) (by decide) _ rfl rfl (by omega) (by decide) (fun A hm hF => ?_)
    generalize hff : upd ((m.1, va_up m.2 17 (upd (m.2 17) r (nI (tkO herd q)))).2 16) (2001 * r + 2000) (nI 9999) = f at hm
    refine r_iconst 47 dX1_layRoad_46 rfl ic_0 ?_
    refine r_istore 49 dX1_layRoad_47 rfl so4 rfl ?_
    refine r_sipush 52 dX1_layRoad_49 rfl si_1999 ?_
    refine r_istore 54 dX1_layRoad_52 rfl so5 rfl ?_
    rw [show nI 1999 = nI 2000 + Int32.ofInt (-1) by decide]
    exact lp_X1_layRoad hS hq 2000 0 A f (Nat.le_refl _) rfl (fun t h1 h2 => by rw [show t = 2000 by omega, ← hff, upd_s]; rfl) (fun p hp => by rw [← hff, upd_n (by omega)]; rfl) hm hF
  · rw [if_pos hc12] at hy
    refine r_iconst 16 dX1_layRoad_15 rfl ic_2 ?_
    refine r_aload_n 17 dX1_layRoad_16 rfl rfl lo0 ?_
    refine r_get 20 dX1_layRoad_17 rfl g_X1_49_1 hm.t lo21 ?_
    refine r_iload_n 21 dX1_layRoad_20 rfl rfl lo1 ?_
    refine r_ialdv 22 dX1_layRoad_21 rfl hm.a14 _ rfl h14 (by omega) (by decide) ?_
    first | refine r_imulN 23 dX1_layRoad_22 rfl ?_ | refine r_imul 23 dX1_layRoad_22 rfl ?_
    refine r_goto 32 dX1_layRoad_23 (by decide) ?_
    refine rm_iast (N := 10) 33 dX1_layRoad_32 rfl hm hF (by decide) (by decide) _ rfl rfl (by omega) (by decide) (fun A hm hF => ?_)
    rw [← hy] at hm
    refine r_aload_n 34 dX1_layRoad_33 rfl rfl lo0 ?_
    refine r_get 37 dX1_layRoad_34 rfl g_X1_55_1 hm.t lo23 ?_
    refine r_iload_n 38 dX1_layRoad_37 rfl rfl lo3 ?_
    refine r_sipush 41 dX1_layRoad_38 rfl si_2000 ?_
    first | refine r_iaddN 42 dX1_layRoad_41 rfl ?_ | refine r_iadd 42 dX1_layRoad_41 rfl ?_
    refine r_sipush 45 dX1_layRoad_42 rfl si_9999 ?_
    refine rm_iast (N := 20010) 46 dX1_layRoad_45 rfl hm hF (by decide) (by decide) _ rfl rfl (by omega) (by decide) (fun A hm hF => ?_)
    generalize hff : upd ((m.1, va_up m.2 17 (upd (m.2 17) r (nI (tkO herd q)))).2 16) (2001 * r + 2000) (nI 9999) = f at hm
    refine r_iconst 47 dX1_layRoad_46 rfl ic_0 ?_
    refine r_istore 49 dX1_layRoad_47 rfl so4 rfl ?_
    refine r_sipush 52 dX1_layRoad_49 rfl si_1999 ?_
    refine r_istore 54 dX1_layRoad_52 rfl so5 rfl ?_
    rw [show nI 1999 = nI 2000 + Int32.ofInt (-1) by decide]
    exact lp_X1_layRoad hS hq 2000 0 A f (Nat.le_refl _) rfl (fun t h1 h2 => by rw [show t = 2000 by omega, ← hff, upd_s]; rfl) (fun p hp => by rw [← hff, upd_n (by omega)]; rfl) hm hF

set_option maxHeartbeats 4000000 in
theorem lp_X1_layRoads {w : WE} {A0 : Hp} {m : MT} {S : ST} {herd : Bool} (hS : MS m S) : ∀ (j i : Nat) (A : Hp) (m1 : MT), i + j = S.2.2.1.length → Eqm m m1 → (∀ k, 18 ≤ k → m1.2 k = m.2 k) → m1.1 = m.1 → (∀ r q, r < i → S.2.2.1[r]? = some q → JR1 m1 S.2.1 herd r q) → MR w A m1 → Fm w A0 A → Rn w mX1_layRoads (rmX 4 0 0) (ZX w (QM w A0 (fun v m' => v = none ∧ (fun m' => Eqm m m' ∧ (∀ k, 18 ≤ k → m'.2 k = m.2 k) ∧ m'.1 = m.1 ∧ JR m' S.2.1 S.2.2.1 herd) m')) 0 0) 0 0 A 2 [some (.ref (mb w)), some (.int (bI herd)), some (.int (nI i))] [] := by
  have hl10 := hS.rd.2.1
  intro j
  induction j with
  | zero =>
    intro i A m1 hij he h18 h1 hj hm hF
    have hS1 := hS.eqm he
    refine r_iload_n 3 dX1_layRoads_2 rfl rfl lo2 ?_
    refine r_aload_n 4 dX1_layRoads_3 rfl rfl lo0 ?_
    refine r_getv 7 dX1_layRoads_4 rfl g_X1_123_1 hm.t lo16 hS1.rd.1 ?_
    first | refine r_icmp_geN 22 10 dX1_layRoads_7 rfl (by decide) (by omega) (by omega) (fun hc7 => ?_) (fun hc7 => ?_) | refine r_icmp_ge 22 10 dX1_layRoads_7 rfl (by decide) (fun hc7 => ?_) (fun hc7 => ?_)
    · exact r_vret dX1_layRoads_22 rfl (Nat.le_refl _) (Nat.le_refl _) (qm hm hF ⟨rfl, he, h18, h1, fun r q hq => hj r q (by have := (List.getElem?_eq_some_iff.mp hq).1; omega) hq⟩)
    · exact absurd hc7 (by omega)
  | succ j ih =>
    intro i A m1 hij he h18 h1 hj hm hF
    have hS1 := hS.eqm he
    refine r_iload_n 3 dX1_layRoads_2 rfl rfl lo2 ?_
    refine r_aload_n 4 dX1_layRoads_3 rfl rfl lo0 ?_
    refine r_getv 7 dX1_layRoads_4 rfl g_X1_123_1 hm.t lo16 hS1.rd.1 ?_
    first | refine r_icmp_geN 22 10 dX1_layRoads_7 rfl (by decide) (by omega) (by omega) (fun hc7 => ?_) (fun hc7 => ?_) | refine r_icmp_ge 22 10 dX1_layRoads_7 rfl (by decide) (fun hc7 => ?_) (fun hc7 => ?_)
    · exact absurd hc7 (by omega)
    · obtain ⟨q, hq⟩ := get_of_lt hc7
      refine r_aload_n 11 dX1_layRoads_10 rfl rfl lo0 ?_
      refine r_iload_n 12 dX1_layRoads_11 rfl rfl lo2 ?_
      refine r_iload_n 13 dX1_layRoads_12 rfl rfl lo1 ?_
      refine rm_v2 16 dX1_layRoads_13 rfl sV_X1_166_1 hm hF (by rfl) (ev_X1_layRoad (S := S) (q := q) (herd := herd) hm hS1 hq) (fun A m' hP hm hF => ?_)
      obtain ⟨f, rfl, hf, hg⟩ := hP
      refine r_iinc 19 dX1_layRoads_16 rfl lo2 inc1 so2 rfl ?_
      refine r_goto 2 dX1_layRoads_19 (by decide) ?_
      refine ih (i + 1) A (m1.1, va_up (va_up m1.2 17 (upd (m1.2 17) i (nI (tkO herd q)))) 16 f) (by omega) (he.tr ⟨fun _ _ => rfl, fun k hk => by simp [va_up, show k ≠ 16 by omega, show k ≠ 17 by omega]⟩) (fun k hk => by rw [← h18 k hk]; simp [va_up, show k ≠ 16 by omega, show k ≠ 17 by omega]) h1 (fun r p hr hp => ?_) hm hF
      by_cases e : r = i
      · subst e
        cases hq.symm.trans hp
        exact ⟨(upd_s : upd (m1.2 17) r _ r = _), fun t ht => hf t ht⟩
      · obtain ⟨a1, a2⟩ := hj r p (by omega) hp
        exact ⟨((upd_n e).trans a1 : upd (m1.2 17) i _ r = _), fun t ht => (hg (2001 * r + t) (by omega)).trans (a2 t ht)⟩

set_option maxHeartbeats 4000000 in
theorem ev_X1_layRoads {w : WE} {A : Hp} {m : MT} {S : ST} {herd : Bool} (hm : MR w A m) (hS : MS m S) : EvMv w mX1_layRoads 4 [.ref (mb w), .int (bI herd)] A (fun m' => Eqm m m' ∧ (∀ k, 18 ≤ k → m'.2 k = m.2 k) ∧ m'.1 = m.1 ∧ JR m' S.2.1 S.2.2.1 herd) := by
  refine Ev.mk 1 [some (.ref (mb w)), some (.int (bI herd)), none] rfl plX1 (Nat.le_of_ble_eq_true rfl) ?_
  have hF : Fm w A A := Fm.rf
  refine r_iconst 1 dX1_layRoads_0 rfl ic_0 ?_
  refine r_istore_n 2 dX1_layRoads_1 rfl rfl so2 rfl ?_
  exact lp_X1_layRoads hS S.2.2.1.length 0 A m (by omega) Eqm.rf (fun _ _ => rfl) rfl (fun r q hr => absurd hr (by omega)) hm hF

set_option maxHeartbeats 4000000 in
theorem ev_X1_next {w : WE} {A : Hp} {m : MT} {S : ST} {x hour : Int32} {herd : Bool} (hm : MR w A m) (hS : MS m S) : Ev w mX1_next 4 0 0 [.ref (mb w), .int x, .int hour, .int (bI herd)] A (QM w A (fun v m' => v = some (.int (sp_next S x hour herd)) ∧ MS m' S)) := by
  refine Ev.mk 1 [some (.ref (mb w)), some (.int x), some (.int hour), some (.int (bI herd)), none] rfl plX1 (Nat.le_of_ble_eq_true rfl) ?_
  have hF : Fm w A A := Fm.rf
  have hl10 := hS.rd.2.1
  have hz : (m.1 16).toInt = (S.2.2.1.length : Int) := by rw [hS.rd.1, nI_toInt (by omega)]
  refine r_aload_n 1 dX1_next_0 rfl rfl lo0 ?_
  refine r_iload_n 2 dX1_next_1 rfl rfl lo1 ?_
  refine r_cV1 5 dX1_next_2 rfl sV_X1_153_1 hm.t (by rfl) (ev_X1_isRoad hm) ?_
  refine r_if_neB 10 8 dX1_next_5 rfl (by decide) (fun hc5 => ?_) (fun hc5 => ?_)
  · obtain ⟨j, q, hj, rfl, hq, hix⟩ := ix_ok (l := S.2.2.1) (x := x) (by rw [hz] at hc5; have := btw_t.mp hc5; omega)
    obtain ⟨h10, h11, h12, h13, h14, h15, hok⟩ := hS.rd.2.2 j q hq
    obtain ⟨o1, o2, o3, o4, o5, o6, o7, o8⟩ := hok
    refine r_iload_n 11 dX1_next_10 rfl rfl lo2 ?_
    refine r_cS1 14 dX1_next_11 rfl sS_X1_137 (by rfl) ev_X1_isHour ?_
    refine r_if_neB 20 17 dX1_next_14 rfl (by decide) (fun hc14 => ?_) (fun hc14 => ?_)
    · obtain ⟨h, hh, rfl⟩ := hr_ok hc14
      refine r_aload_n 21 dX1_next_20 rfl rfl lo0 ?_
      refine r_iload_n 22 dX1_next_21 rfl rfl lo1 ?_
      refine r_iload_n 23 dX1_next_22 rfl rfl lo3 ?_
      refine rm_v2 26 dX1_next_23 rfl sV_X1_166_1 hm hF (by rfl) (ev_X1_layRoad (S := S) (q := q) (herd := herd) hm hS hq) (fun A m' hP hm hF => ?_)
      obtain ⟨f, rfl, hf, hg⟩ := hP
      have hb := en_le (ms := S.2.1) (q := q) (tk := tkO herd q) (h := h) (by omega)
      refine r_aload_n 27 dX1_next_26 rfl rfl lo0 ?_
      refine r_get 30 dX1_next_27 rfl g_X1_55_1 hm.t lo23 ?_
      refine r_sipush 33 dX1_next_30 rfl si_2001 ?_
      refine r_iload_n 34 dX1_next_33 rfl rfl lo1 ?_
      first | refine r_imulN 35 dX1_next_34 rfl ?_ | refine r_imul 35 dX1_next_34 rfl ?_
      refine r_iload_n 36 dX1_next_35 rfl rfl lo2 ?_
      first | refine r_iaddN 37 dX1_next_36 rfl ?_ | refine r_iadd 37 dX1_next_36 rfl ?_
      refine r_ialdv 38 dX1_next_37 rfl hm.a16 _ rfl (show f (2001 * j + h) = _ from hf h (by omega)) (by omega) (by decide) ?_
      refine r_istore 40 dX1_next_38 rfl so4 rfl ?_
      refine r_iload 42 dX1_next_40 rfl lo4 ?_
      refine r_sipush 45 dX1_next_42 rfl si_9999 ?_
      first | refine r_icmp_neN 53 48 dX1_next_45 rfl (by decide) (by omega) (by omega) (fun hc45 => ?_) (fun hc45 => ?_) | refine r_icmp_ne 53 48 dX1_next_45 rfl (by decide) (fun hc45 => ?_) (fun hc45 => ?_)
      · refine r_iload 55 dX1_next_53 rfl lo4 ?_
        exact r_iret dX1_next_55 rfl (Nat.le_refl _) (Nat.le_refl _) (qm hm hF ⟨rq (by unfold sp_next; rw [hix]; dsimp only; rw [if_pos hc14, nI_nat (j := h) (by omega)]; first | exact oI_en hc45 (fun s e => by have := stt_le (show h ≤ 2000 by omega) e; omega) | exact oI_ne hc45), hS.eqm ((Eqm.arr (by decide)).tr (Eqm.arr (by decide)))⟩)
      · refine r_bipush 50 dX1_next_48 rfl bi_m9 ?_
        refine r_goto 55 dX1_next_50 (by decide) ?_
        exact r_iret dX1_next_55 rfl (Nat.le_refl _) (Nat.le_refl _) (qm hm hF ⟨rq (by unfold sp_next; rw [hix]; dsimp only; rw [if_pos hc14, nI_nat (j := h) (by omega)]; first | exact oI_en hc45 (fun s e => by have := stt_le (show h ≤ 2000 by omega) e; omega) | exact oI_ne hc45), hS.eqm ((Eqm.arr (by decide)).tr (Eqm.arr (by decide)))⟩)
    · refine r_bipush 19 dX1_next_17 rfl bi_m2 ?_
      exact r_iret dX1_next_19 rfl (Nat.le_refl _) (Nat.le_refl _) (qm hm hF ⟨rq (by unfold sp_next; rw [hix]; dsimp only; rw [if_neg (by rw [hc14]; decide)]), hS⟩)
  · refine r_iconst 9 dX1_next_8 rfl ic_m1 ?_
    exact r_iret dX1_next_9 rfl (Nat.le_refl _) (Nat.le_refl _) (qm hm hF ⟨rq (by unfold sp_next; rw [ix_no (by rw [hz] at hc5; exact btw_f.mp hc5)]), hS⟩)

