/-! THE REFERENCE: overBy, exchange -/
set_option maxRecDepth 100000
set_option maxHeartbeats 4000000 in
theorem lp_X1_overBy {w : WE} {A0 : Hp} {m : MT} {S : ST} {od : Nat → Nat} {f h r : Nat} (hS : MS m S) (hJ : JR m S.2.1 S.2.2.1 false) (hO : OrdR m (S.1 - 1) S.1 od) (hs1 : 2 ≤ S.1) : ∀ (j k now t : Nat) (A : Hp) (g : Nat → Int32), k + j = S.1 - 1 → now < S.1 → t ≤ 2000 → r = ovb (fun f t x => bfS S false f t x) od S.1 j k now t → MR w A (m.1, va_up m.2 18 g) → Fm w A0 A → Rn w mX1_overBy (rmX 3 0 0) (ZX w (QM w A0 (fun v m' => v = some (.int (nI r)) ∧ (fun m' => ∃ g : Nat → Int32, m' = (m.1, va_up m.2 18 g)) m')) 0 0) 0 0 A 8 [some (.ref (mb w)), some (.int (nI f)), some (.int (nI h)), some (.int (nI now)), some (.int (nI t)), some (.int (nI k))] [] := by
  have hi6 := hS.ok.le
  intro j
  induction j with
  | zero =>
    intro k now t A g hkj hn ht hr hm hF
    have hr : r = t := hr
    refine r_iload 10 dX1_overBy_8 rfl lo5 ?_
    refine r_aload_n 11 dX1_overBy_10 rfl rfl lo0 ?_
    refine r_getv 14 dX1_overBy_11 rfl g_X1_86_1 hm.t lo5 hS.il ?_
    refine r_iconst 15 dX1_overBy_14 rfl ic_1 ?_
    first | refine r_isubN 16 dX1_overBy_15 rfl (by omega) ?_ | refine r_isub 16 dX1_overBy_15 rfl ?_
    first | refine r_icmp_geN 93 19 dX1_overBy_16 rfl (by decide) (by omega) (by omega) (fun hc16 => ?_) (fun hc16 => ?_) | refine r_icmp_ge 93 19 dX1_overBy_16 rfl (by decide) (fun hc16 => ?_) (fun hc16 => ?_)
    · refine r_iload 95 dX1_overBy_93 rfl lo4 ?_
      exact r_iret dX1_overBy_95 rfl (Nat.le_refl _) (Nat.le_refl _) (qm hm hF ⟨by rw [hr], g, rfl⟩)
    · exact absurd hc16 (by omega)
  | succ j ih =>
    intro k now t A g hkj hn ht hr hm hF
    obtain ⟨o1, o2⟩ := hO k (by omega)
    have hb := bf_le (isl := S.1) (ms := S.2.1) (herd := false) (rs := S.2.2.1) (f := now) (x := od k) ht
    refine r_iload 10 dX1_overBy_8 rfl lo5 ?_
    refine r_aload_n 11 dX1_overBy_10 rfl rfl lo0 ?_
    refine r_getv 14 dX1_overBy_11 rfl g_X1_86_1 hm.t lo5 hS.il ?_
    refine r_iconst 15 dX1_overBy_14 rfl ic_1 ?_
    first | refine r_isubN 16 dX1_overBy_15 rfl (by omega) ?_ | refine r_isub 16 dX1_overBy_15 rfl ?_
    first | refine r_icmp_geN 93 19 dX1_overBy_16 rfl (by decide) (by omega) (by omega) (fun hc16 => ?_) (fun hc16 => ?_) | refine r_icmp_ge 93 19 dX1_overBy_16 rfl (by decide) (fun hc16 => ?_) (fun hc16 => ?_)
    · exact absurd hc16 (by omega)
    · refine r_iload 21 dX1_overBy_19 rfl lo4 ?_
      refine r_sipush 24 dX1_overBy_21 rfl si_2000 ?_
      first | refine r_icmp_geN 93 27 dX1_overBy_24 rfl (by decide) (by omega) (by omega) (fun hc24 => ?_) (fun hc24 => ?_) | refine r_icmp_ge 93 27 dX1_overBy_24 rfl (by decide) (fun hc24 => ?_) (fun hc24 => ?_)
      · refine r_iload 95 dX1_overBy_93 rfl lo4 ?_
        exact r_iret dX1_overBy_95 rfl (Nat.le_refl _) (Nat.le_refl _) (qm hm hF ⟨by rw [hr, ovb_e hc24], g, rfl⟩)
      · refine r_aload_n 28 dX1_overBy_27 rfl rfl lo0 ?_
        refine r_iload_n 29 dX1_overBy_28 rfl rfl lo3 ?_
        refine r_iload 31 dX1_overBy_29 rfl lo4 ?_
        refine rm_v2 34 dX1_overBy_31 rfl sV_X1_178_1 hm hF (by rfl) (ev_X1_findThere (S := S) (herd := false) (f0 := now) (h0 := t) hm hS (hJ.eq rfl rfl) hn ht) (fun A m' hP hm hF => ?_)
        obtain ⟨g2, rfl, hg2⟩ := hP
        rw [bx_uu] at hm
        refine r_aload_n 35 dX1_overBy_34 rfl rfl lo0 ?_
        refine r_get 38 dX1_overBy_35 rfl g_X1_67_1 hm.t lo28 ?_
        refine r_iload 40 dX1_overBy_38 rfl lo5 ?_
        refine r_ialdv 41 dX1_overBy_40 rfl hm.a20 _ rfl o1 (by omega) (by decide) ?_
        refine r_istore_n 42 dX1_overBy_41 rfl rfl so3 rfl ?_
        refine r_aload_n 43 dX1_overBy_42 rfl rfl lo0 ?_
        refine r_get 46 dX1_overBy_43 rfl g_X1_61_1 hm.t lo25 ?_
        refine r_iload_n 47 dX1_overBy_46 rfl rfl lo3 ?_
        refine r_ialdv 48 dX1_overBy_47 rfl hm.a18 _ rfl (show g2 (od k) = _ from hg2 (od k) o2) (by omega) (by decide) ?_
        refine r_iconst 49 dX1_overBy_48 rfl ic_1 ?_
        first | refine r_iaddN 50 dX1_overBy_49 rfl ?_ | refine r_iadd 50 dX1_overBy_49 rfl ?_
        refine r_istore 52 dX1_overBy_50 rfl so4 rfl ?_
        refine r_iload 54 dX1_overBy_52 rfl lo4 ?_
        refine r_sipush 57 dX1_overBy_54 rfl si_2000 ?_
        first | refine r_icmp_leN 64 60 dX1_overBy_57 rfl (by decide) (by omega) (by omega) (fun hc57 => ?_) (fun hc57 => ?_) | refine r_icmp_le 64 60 dX1_overBy_57 rfl (by decide) (fun hc57 => ?_) (fun hc57 => ?_)
        · refine r_iload 66 dX1_overBy_64 rfl lo4 ?_
          refine r_sipush 69 dX1_overBy_66 rfl si_2000 ?_
          first | refine r_icmp_neN 87 72 dX1_overBy_69 rfl (by decide) (by omega) (by omega) (fun hc69 => ?_) (fun hc69 => ?_) | refine r_icmp_ne 87 72 dX1_overBy_69 rfl (by decide) (fun hc69 => ?_) (fun hc69 => ?_)
          · refine r_iinc 90 dX1_overBy_87 rfl lo5 inc1 so5 rfl ?_
            refine r_goto 8 dX1_overBy_90 (by decide) ?_
            exact ih (k + 1) (od k) _ A g2 (by omega) o2 hc57 (by rw [hr, ovb_s hc24 (Nat.not_lt.mpr hc57) (by first | exact fun z => hc69 z.1 | exact fun z => absurd z.2 (by omega))]) hm hF
          · refine r_iload 74 dX1_overBy_72 rfl lo5 ?_
            refine r_aload_n 75 dX1_overBy_74 rfl rfl lo0 ?_
            refine r_getv 78 dX1_overBy_75 rfl g_X1_86_1 hm.t lo5 hS.il ?_
            refine r_iconst 79 dX1_overBy_78 rfl ic_2 ?_
            first | refine r_isubN 80 dX1_overBy_79 rfl (by omega) ?_ | refine r_isub 80 dX1_overBy_79 rfl ?_
            first | refine r_icmp_geN 87 83 dX1_overBy_80 rfl (by decide) (by omega) (by omega) (fun hc80 => ?_) (fun hc80 => ?_) | refine r_icmp_ge 87 83 dX1_overBy_80 rfl (by decide) (fun hc80 => ?_) (fun hc80 => ?_)
            · refine r_iinc 90 dX1_overBy_87 rfl lo5 inc1 so5 rfl ?_
              refine r_goto 8 dX1_overBy_90 (by decide) ?_
              exact ih (k + 1) (od k) _ A g2 (by omega) o2 hc57 (by rw [hr, ovb_s hc24 (Nat.not_lt.mpr hc57) (by first | exact fun z => hc69 z.1 | exact fun z => absurd z.2 (by omega))]) hm hF
            · refine r_sipush 86 dX1_overBy_83 rfl si_9999 ?_
              exact r_iret dX1_overBy_86 rfl (Nat.le_refl _) (Nat.le_refl _) (qm hm hF ⟨by rw [hr, ovb_9 hc24 (by first | exact Or.inl hc57 | exact Or.inr ⟨hc69, by omega⟩)], g2, rfl⟩)
        · refine r_sipush 63 dX1_overBy_60 rfl si_9999 ?_
          exact r_iret dX1_overBy_63 rfl (Nat.le_refl _) (Nat.le_refl _) (qm hm hF ⟨by rw [hr, ovb_9 hc24 (by first | exact Or.inl hc57 | exact Or.inr ⟨hc69, by omega⟩)], g2, rfl⟩)

set_option maxHeartbeats 4000000 in
theorem ev_X1_overBy {w : WE} {A : Hp} {m : MT} {S : ST} {od : Nat → Nat} {f h : Nat} (hm : MR w A m) (hS : MS m S) (hJ : JR m S.2.1 S.2.2.1 false) (hO : OrdR m (S.1 - 1) S.1 od) (hs1 : 2 ≤ S.1) (hf : f < S.1) (hh : h ≤ 2000) : EvMi w mX1_overBy 3 [.ref (mb w), .int (nI f), .int (nI h)] A (nI (ovb (fun f t x => bfS S false f t x) od S.1 (S.1 - 1) 0 f h)) (fun m' => ∃ g : Nat → Int32, m' = (m.1, va_up m.2 18 g)) := by
  refine Ev.mk 3 [some (.ref (mb w)), some (.int (nI f)), some (.int (nI h)), none, none, none] rfl plX1 (Nat.le_of_ble_eq_true rfl) ?_
  have hF : Fm w A A := Fm.rf
  refine r_iload_n 1 dX1_overBy_0 rfl rfl lo1 ?_
  refine r_istore_n 2 dX1_overBy_1 rfl rfl so3 rfl ?_
  refine r_iload_n 3 dX1_overBy_2 rfl rfl lo2 ?_
  refine r_istore 5 dX1_overBy_3 rfl so4 rfl ?_
  refine r_iconst 6 dX1_overBy_5 rfl ic_0 ?_
  refine r_istore 8 dX1_overBy_6 rfl so5 rfl ?_
  exact lp_X1_overBy hS hJ hO hs1 (S.1 - 1) 0 f h A _ (by omega) hf hh rfl (hm.eta 18) hF

set_option maxHeartbeats 4000000 in
theorem ev_X1_exchange {w : WE} {A : Hp} {m : MT} {n p q : Nat} {od : Nat → Nat} (hm : MR w A m) (hO : ∀ k, k < n → m.2 20 k = nI (od k)) (hn : n ≤ 5) (hp : p < n) (hq : q < n) : EvMv w mX1_exchange 1 [.ref (mb w), .int (nI p), .int (nI q)] A (fun m' => ∃ g : Nat → Int32, m' = (m.1, va_up m.2 20 g) ∧ ∀ k, k < n → g k = nI (if k = q then od p else if k = p then od q else od k)) := by
  refine Ev.mk 1 [some (.ref (mb w)), some (.int (nI p)), some (.int (nI q)), none] rfl plX1 (Nat.le_of_ble_eq_true rfl) ?_
  have hF : Fm w A A := Fm.rf
  refine r_aload_n 1 dX1_exchange_0 rfl rfl lo0 ?_
  refine r_get 4 dX1_exchange_1 rfl g_X1_67_1 hm.t lo28 ?_
  refine r_iload_n 5 dX1_exchange_4 rfl rfl lo1 ?_
  refine r_ialdv 6 dX1_exchange_5 rfl hm.a20 _ rfl (hO p hp) (by omega) (by decide) ?_
  refine r_istore_n 7 dX1_exchange_6 rfl rfl so3 rfl ?_
  refine r_aload_n 8 dX1_exchange_7 rfl rfl lo0 ?_
  refine r_get 11 dX1_exchange_8 rfl g_X1_67_1 hm.t lo28 ?_
  refine r_iload_n 12 dX1_exchange_11 rfl rfl lo1 ?_
  refine r_aload_n 13 dX1_exchange_12 rfl rfl lo0 ?_
  refine r_get 16 dX1_exchange_13 rfl g_X1_67_1 hm.t lo28 ?_
  refine r_iload_n 17 dX1_exchange_16 rfl rfl lo2 ?_
  refine r_ialdv 18 dX1_exchange_17 rfl hm.a20 _ rfl (hO q hq) (by omega) (by decide) ?_
  refine rm_iast (N := 5) 19 dX1_exchange_18 rfl hm hF (by decide) (by decide) _ rfl rfl (by omega) (by decide) (fun A hm hF => ?_)
  refine r_aload_n 20 dX1_exchange_19 rfl rfl lo0 ?_
  refine r_get 23 dX1_exchange_20 rfl g_X1_67_1 hm.t lo28 ?_
  refine r_iload_n 24 dX1_exchange_23 rfl rfl lo2 ?_
  refine r_iload_n 25 dX1_exchange_24 rfl rfl lo3 ?_
  refine rm_iast (N := 5) 26 dX1_exchange_25 rfl hm hF (by decide) (by decide) _ rfl rfl (by omega) (by decide) (fun A hm hF => ?_)
  rw [bx_uu] at hm
  exact r_vret dX1_exchange_26 rfl (Nat.le_refl _) (Nat.le_refl _) (qm hm hF ⟨rfl, _, rfl, fun k hk => by
        show upd (upd (m.2 20) p (nI (od q))) q (nI (od p)) k = _
        by_cases e : k = q
        · rw [if_pos e, e, upd_s]
        · rw [if_neg e, upd_n e]
          by_cases e2 : k = p
          · rw [if_pos e2, e2, upd_s]
          · rw [if_neg e2, upd_n e2]
            exact hO k hk⟩)

