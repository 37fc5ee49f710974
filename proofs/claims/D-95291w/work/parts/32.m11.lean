/-! THE REFERENCE: journeys -/
set_option maxRecDepth 100000
set_option maxHeartbeats 4000000 in
theorem ev_X1_cross {w : WE} {A : Hp} {m : MT} {ms : List Mo} {isl r a b : Nat} {q : Rd} {herd : Bool} {T : Nat → Nat} (hm : MR w A m) (hok : RdOk isl q) (hj : JR1 m ms herd r q) (hT : ThR m isl T) (hi6 : isl ≤ 6) (hr : r < 10) (ha : a < isl) (hb : b < isl) : EvMv w mX1_cross 1 [.ref (mb w), .int (nI r), .int (nI a), .int (nI b)] A (fun m' => ∃ f : Nat → Int32, m' = (m.1, va_up m.2 18 f) ∧ ∀ x, x < isl → f x = nI (rlx ms q (tkO herd q) a b T x)) := by
  refine Ev.mk 1 [some (.ref (mb w)), some (.int (nI r)), some (.int (nI a)), some (.int (nI b)), none] rfl plX1 (Nat.le_of_ble_eq_true rfl) ?_
  have hF : Fm w A A := Fm.rf
  have ra := hT a ha
  have rb := hT b hb
  have htk := tkO_le (herd := herd) hok
  by_cases h2 : 2000 < T a
  · refine r_aload_n 1 dX1_cross_0 rfl rfl lo0 ?_
    refine r_get 4 dX1_cross_1 rfl g_X1_61_1 hm.t lo25 ?_
    refine r_iload_n 5 dX1_cross_4 rfl rfl lo2 ?_
    refine r_ialdv 6 dX1_cross_5 rfl hm.a18 _ rfl ra.1 (by omega) (by decide) ?_
    refine r_sipush 9 dX1_cross_6 rfl si_2000 ?_
    first | refine r_icmp_leN 13 12 dX1_cross_9 rfl (by decide) (by omega) (by omega) (fun hc9 => ?_) (fun hc9 => ?_) | refine r_icmp_le 13 12 dX1_cross_9 rfl (by decide) (fun hc9 => ?_) (fun hc9 => ?_)
    · exact absurd hc9 (by omega)
    · exact r_vret dX1_cross_12 rfl (Nat.le_refl _) (Nat.le_refl _) (qm hm hF ⟨rfl, m.2 18, by rw [vu_self], fun x hx => by rw [rlx_9 h2]; exact (hT x hx).1⟩)
  rcases e : stt ms q (tkO herd q) (T a) with _ | s
  · have h16 : m.2 16 (2001 * r + T a) = nI 9999 := by rw [hj.2 (T a) (by omega), e]; rfl
    refine r_aload_n 1 dX1_cross_0 rfl rfl lo0 ?_
    refine r_get 4 dX1_cross_1 rfl g_X1_61_1 hm.t lo25 ?_
    refine r_iload_n 5 dX1_cross_4 rfl rfl lo2 ?_
    refine r_ialdv 6 dX1_cross_5 rfl hm.a18 _ rfl ra.1 (by omega) (by decide) ?_
    refine r_sipush 9 dX1_cross_6 rfl si_2000 ?_
    first | refine r_icmp_leN 13 12 dX1_cross_9 rfl (by decide) (by omega) (by omega) (fun hc9 => ?_) (fun hc9 => ?_) | refine r_icmp_le 13 12 dX1_cross_9 rfl (by decide) (fun hc9 => ?_) (fun hc9 => ?_)
    · refine r_aload_n 14 dX1_cross_13 rfl rfl lo0 ?_
      refine r_get 17 dX1_cross_14 rfl g_X1_55_1 hm.t lo23 ?_
      refine r_sipush 20 dX1_cross_17 rfl si_2001 ?_
      refine r_iload_n 21 dX1_cross_20 rfl rfl lo1 ?_
      first | refine r_imulN 22 dX1_cross_21 rfl ?_ | refine r_imul 22 dX1_cross_21 rfl ?_
      refine r_aload_n 23 dX1_cross_22 rfl rfl lo0 ?_
      refine r_get 26 dX1_cross_23 rfl g_X1_61_1 hm.t lo25 ?_
      refine r_iload_n 27 dX1_cross_26 rfl rfl lo2 ?_
      refine r_ialdv 28 dX1_cross_27 rfl hm.a18 _ rfl ra.1 (by omega) (by decide) ?_
      first | refine r_iaddN 29 dX1_cross_28 rfl ?_ | refine r_iadd 29 dX1_cross_28 rfl ?_
      refine r_ialdv 30 dX1_cross_29 rfl hm.a16 _ rfl h16 (by omega) (by decide) ?_
      refine r_istore 32 dX1_cross_30 rfl so4 rfl ?_
      refine r_iload 34 dX1_cross_32 rfl lo4 ?_
      refine r_sipush 37 dX1_cross_34 rfl si_9999 ?_
      first | refine r_icmp_eqN 73 40 dX1_cross_37 rfl (by decide) (by omega) (by omega) (fun hc37 => ?_) (fun hc37 => ?_) | refine r_icmp_eq 73 40 dX1_cross_37 rfl (by decide) (fun hc37 => ?_) (fun hc37 => ?_)
      · exact r_vret dX1_cross_73 rfl (Nat.le_refl _) (Nat.le_refl _) (qm hm hF ⟨rfl, m.2 18, by rw [vu_self], fun x hx => by rw [rlx_n h2 e]; exact (hT x hx).1⟩)
      · exact absurd rfl hc37
    · exact absurd hc9 (by omega)
  · have h16 : m.2 16 (2001 * r + T a) = nI s := by rw [hj.2 (T a) (by omega), e]; rfl
    have hse := stt_le (show T a ≤ 2000 by omega) e
    refine r_aload_n 1 dX1_cross_0 rfl rfl lo0 ?_
    refine r_get 4 dX1_cross_1 rfl g_X1_61_1 hm.t lo25 ?_
    refine r_iload_n 5 dX1_cross_4 rfl rfl lo2 ?_
    refine r_ialdv 6 dX1_cross_5 rfl hm.a18 _ rfl ra.1 (by omega) (by decide) ?_
    refine r_sipush 9 dX1_cross_6 rfl si_2000 ?_
    first | refine r_icmp_leN 13 12 dX1_cross_9 rfl (by decide) (by omega) (by omega) (fun hc9 => ?_) (fun hc9 => ?_) | refine r_icmp_le 13 12 dX1_cross_9 rfl (by decide) (fun hc9 => ?_) (fun hc9 => ?_)
    · refine r_aload_n 14 dX1_cross_13 rfl rfl lo0 ?_
      refine r_get 17 dX1_cross_14 rfl g_X1_55_1 hm.t lo23 ?_
      refine r_sipush 20 dX1_cross_17 rfl si_2001 ?_
      refine r_iload_n 21 dX1_cross_20 rfl rfl lo1 ?_
      first | refine r_imulN 22 dX1_cross_21 rfl ?_ | refine r_imul 22 dX1_cross_21 rfl ?_
      refine r_aload_n 23 dX1_cross_22 rfl rfl lo0 ?_
      refine r_get 26 dX1_cross_23 rfl g_X1_61_1 hm.t lo25 ?_
      refine r_iload_n 27 dX1_cross_26 rfl rfl lo2 ?_
      refine r_ialdv 28 dX1_cross_27 rfl hm.a18 _ rfl ra.1 (by omega) (by decide) ?_
      first | refine r_iaddN 29 dX1_cross_28 rfl ?_ | refine r_iadd 29 dX1_cross_28 rfl ?_
      refine r_ialdv 30 dX1_cross_29 rfl hm.a16 _ rfl h16 (by omega) (by decide) ?_
      refine r_istore 32 dX1_cross_30 rfl so4 rfl ?_
      refine r_iload 34 dX1_cross_32 rfl lo4 ?_
      refine r_sipush 37 dX1_cross_34 rfl si_9999 ?_
      first | refine r_icmp_eqN 73 40 dX1_cross_37 rfl (by decide) (by omega) (by omega) (fun hc37 => ?_) (fun hc37 => ?_) | refine r_icmp_eq 73 40 dX1_cross_37 rfl (by decide) (fun hc37 => ?_) (fun hc37 => ?_)
      · exact absurd hc37 (by omega)
      · refine r_iload 42 dX1_cross_40 rfl lo4 ?_
        refine r_aload_n 43 dX1_cross_42 rfl rfl lo0 ?_
        refine r_get 46 dX1_cross_43 rfl g_X1_58_1 hm.t lo24 ?_
        refine r_iload_n 47 dX1_cross_46 rfl rfl lo1 ?_
        refine r_ialdv 48 dX1_cross_47 rfl hm.a17 _ rfl hj.1 (by omega) (by decide) ?_
        first | refine r_iaddN 49 dX1_cross_48 rfl ?_ | refine r_iadd 49 dX1_cross_48 rfl ?_
        refine r_aload_n 50 dX1_cross_49 rfl rfl lo0 ?_
        refine r_get 53 dX1_cross_50 rfl g_X1_61_1 hm.t lo25 ?_
        refine r_iload_n 54 dX1_cross_53 rfl rfl lo3 ?_
        refine r_ialdv 55 dX1_cross_54 rfl hm.a18 _ rfl rb.1 (by omega) (by decide) ?_
        first | refine r_icmp_geN 73 58 dX1_cross_55 rfl (by decide) (by omega) (by omega) (fun hc55 => ?_) (fun hc55 => ?_) | refine r_icmp_ge 73 58 dX1_cross_55 rfl (by decide) (fun hc55 => ?_) (fun hc55 => ?_)
        · exact r_vret dX1_cross_73 rfl (Nat.le_refl _) (Nat.le_refl _) (qm hm hF (by first | exact ⟨rfl, m.2 18, by rw [vu_self], fun x hx => by rw [rlx_s h2 e, if_neg (by omega)]; exact (hT x hx).1⟩ | exact ⟨rfl, _, rfl, fun x hx => by { rw [rlx_s h2 e, if_pos (by omega)]; unfold upd upN; split; rfl; exact (hT x hx).1 }⟩))
        · refine r_aload_n 59 dX1_cross_58 rfl rfl lo0 ?_
          refine r_get 62 dX1_cross_59 rfl g_X1_61_1 hm.t lo25 ?_
          refine r_iload_n 63 dX1_cross_62 rfl rfl lo3 ?_
          refine r_iload 65 dX1_cross_63 rfl lo4 ?_
          refine r_aload_n 66 dX1_cross_65 rfl rfl lo0 ?_
          refine r_get 69 dX1_cross_66 rfl g_X1_58_1 hm.t lo24 ?_
          refine r_iload_n 70 dX1_cross_69 rfl rfl lo1 ?_
          refine r_ialdv 71 dX1_cross_70 rfl hm.a17 _ rfl hj.1 (by omega) (by decide) ?_
          first | refine r_iaddN 72 dX1_cross_71 rfl ?_ | refine r_iadd 72 dX1_cross_71 rfl ?_
          refine rm_iast (N := 6) 73 dX1_cross_72 rfl hm hF (by decide) (by decide) _ rfl rfl (by omega) (by decide) (fun A hm hF => ?_)
          exact r_vret dX1_cross_73 rfl (Nat.le_refl _) (Nat.le_refl _) (qm hm hF (by first | exact ⟨rfl, m.2 18, by rw [vu_self], fun x hx => by rw [rlx_s h2 e, if_neg (by omega)]; exact (hT x hx).1⟩ | exact ⟨rfl, _, rfl, fun x hx => by { rw [rlx_s h2 e, if_pos (by omega)]; unfold upd upN; split; rfl; exact (hT x hx).1 }⟩))
    · exact absurd hc9 (by omega)

set_option maxHeartbeats 4000000 in
theorem lc_X1_findThere {w : WE} {A0 : Hp} {m : MT} {S : ST} {herd : Bool} {f0 h0 t : Nat} {Z : ZT} (hS : MS m S) (hJ : JR m S.2.1 S.2.2.1 herd) : ∀ (j i : Nat) (A : Hp) (f : Nat → Int32) (T : Nat → Nat), i + j = S.2.2.1.length → (∀ x, x < S.1 → f x = nI (T x) ∧ T x ≤ 9999) → (K : ∀ (A : Hp) (f : Nat → Int32) (x4 : Option Value), (∀ x, x < S.1 → f x = nI (bfR S.2.1 herd (S.2.2.1.drop i) T x)) → MR w A (m.1, va_up m.2 18 f) → Fm w A0 A → Rn w mX1_findThere (rmX 2 0 0) Z 0 0 A 102 [some (.ref (mb w)), some (.int (nI f0)), some (.int (nI h0)), some (.int (nI t)), x4] []) → MR w A (m.1, va_up m.2 18 f) → Fm w A0 A → Rn w mX1_findThere (rmX 2 0 0) Z 0 0 A 47 [some (.ref (mb w)), some (.int (nI f0)), some (.int (nI h0)), some (.int (nI t)), some (.int (nI i))] [] := by
  have hl10 := hS.rd.2.1
  have hi6 := hS.ok.le
  intro j
  induction j with
  | zero =>
    intro i A f T hij hf K hm hF
    refine r_iload 49 dX1_findThere_47 rfl lo4 ?_
    refine r_aload_n 50 dX1_findThere_49 rfl rfl lo0 ?_
    refine r_getv 53 dX1_findThere_50 rfl g_X1_123_1 hm.t lo16 hS.rd.1 ?_
    first | refine r_icmp_geN 102 56 dX1_findThere_53 rfl (by decide) (by omega) (by omega) (fun hc53 => ?_) (fun hc53 => ?_) | refine r_icmp_ge 102 56 dX1_findThere_53 rfl (by decide) (fun hc53 => ?_) (fun hc53 => ?_)
    · exact K A f _ (fun x hx => by rw [List.drop_eq_nil_of_le (by omega)]; exact (hf x hx).1) hm hF
    · exact absurd hc53 (by omega)
  | succ j ih =>
    intro i A f T hij hf K hm hF
    refine r_iload 49 dX1_findThere_47 rfl lo4 ?_
    refine r_aload_n 50 dX1_findThere_49 rfl rfl lo0 ?_
    refine r_getv 53 dX1_findThere_50 rfl g_X1_123_1 hm.t lo16 hS.rd.1 ?_
    first | refine r_icmp_geN 102 56 dX1_findThere_53 rfl (by decide) (by omega) (by omega) (fun hc53 => ?_) (fun hc53 => ?_) | refine r_icmp_ge 102 56 dX1_findThere_53 rfl (by decide) (fun hc53 => ?_) (fun hc53 => ?_)
    · exact absurd hc53 (by omega)
    · obtain ⟨q, hq⟩ := get_of_lt hc53
      obtain ⟨h10, h11, h12, h13, h14, h15, hok⟩ := hS.rd.2.2 i q hq
      obtain ⟨o1, o2, o3, o4, o5⟩ := hok
      have hj := hJ i q hq
      refine r_aload_n 57 dX1_findThere_56 rfl rfl lo0 ?_
      refine r_iload 59 dX1_findThere_57 rfl lo4 ?_
      refine r_aload_n 60 dX1_findThere_59 rfl rfl lo0 ?_
      refine r_get 63 dX1_findThere_60 rfl g_X1_40_1 hm.t lo18 ?_
      refine r_iload 65 dX1_findThere_63 rfl lo4 ?_
      refine r_ialdv 66 dX1_findThere_65 rfl hm.a11 _ rfl h11 (by omega) (by decide) ?_
      refine r_aload_n 67 dX1_findThere_66 rfl rfl lo0 ?_
      refine r_get 70 dX1_findThere_67 rfl g_X1_43_1 hm.t lo19 ?_
      refine r_iload 72 dX1_findThere_70 rfl lo4 ?_
      refine r_ialdv 73 dX1_findThere_72 rfl hm.a12 _ rfl h12 (by omega) (by decide) ?_
      refine rm_v3 76 dX1_findThere_73 rfl sV_X1_170_1 hm hF (by rfl) (ev_X1_cross (ms := S.2.1) (isl := S.1) (q := q) (herd := herd) (T := T) hm ⟨o1, o2, o3, o4, o5⟩ hj hf hi6 (by omega) o2 o3) (fun A m' hP hm hF => ?_)
      obtain ⟨f1, rfl, hf1⟩ := hP
      rw [bx_uu] at hm
      refine r_aload_n 77 dX1_findThere_76 rfl rfl lo0 ?_
      refine r_iload 79 dX1_findThere_77 rfl lo4 ?_
      refine r_aload_n 80 dX1_findThere_79 rfl rfl lo0 ?_
      refine r_get 83 dX1_findThere_80 rfl g_X1_43_1 hm.t lo19 ?_
      refine r_iload 85 dX1_findThere_83 rfl lo4 ?_
      refine r_ialdv 86 dX1_findThere_85 rfl hm.a12 _ rfl h12 (by omega) (by decide) ?_
      refine r_aload_n 87 dX1_findThere_86 rfl rfl lo0 ?_
      refine r_get 90 dX1_findThere_87 rfl g_X1_40_1 hm.t lo18 ?_
      refine r_iload 92 dX1_findThere_90 rfl lo4 ?_
      refine r_ialdv 93 dX1_findThere_92 rfl hm.a11 _ rfl h11 (by omega) (by decide) ?_
      refine rm_v3 96 dX1_findThere_93 rfl sV_X1_170_1 hm hF (by rfl) (ev_X1_cross (ms := S.2.1) (isl := S.1) (q := q) (herd := herd) (T := rlx S.2.1 q (tkO herd q) q.2.1 q.2.2.1 T) hm ⟨o1, o2, o3, o4, o5⟩ hj (fun x hx => ⟨hf1 x hx, rlx_le (hf x hx).2⟩) hi6 (by omega) o3 o2) (fun A m' hP hm hF => ?_)
      obtain ⟨f2, rfl, hf2⟩ := hP
      rw [bx_uu] at hm
      refine r_iinc 99 dX1_findThere_96 rfl lo4 inc1 so4 rfl ?_
      refine r_goto 47 dX1_findThere_99 (by decide) ?_
      exact ih (i + 1) A f2 (rlq S.2.1 herd q T) (by omega) (fun x hx => ⟨hf2 x hx, rlx_le (rlx_le (hf x hx).2)⟩) (by rw [← bfR_drop hq]; exact K) hm hF

set_option maxHeartbeats 4000000 in
theorem ls_X1_findThere {w : WE} {A0 : Hp} {m : MT} {S : ST} {herd : Bool} {f0 h0 : Nat} (hS : MS m S) (hJ : JR m S.2.1 S.2.2.1 herd) : ∀ (j t : Nat) (A : Hp) (f : Nat → Int32) (T : Nat → Nat) (x4 : Option Value), t + j = S.1 → (∀ x, x < S.1 → f x = nI (T x) ∧ T x ≤ 9999) → MR w A (m.1, va_up m.2 18 f) → Fm w A0 A → Rn w mX1_findThere (rmX 2 0 0) (ZX w (QM w A0 (fun v m' => v = none ∧ ∃ f : Nat → Int32, m' = (m.1, va_up m.2 18 f) ∧ ∀ x, x < S.1 → f x = nI (bfN S.2.1 herd S.2.2.1 j T x))) 0 0) 0 0 A 36 [some (.ref (mb w)), some (.int (nI f0)), some (.int (nI h0)), some (.int (nI t)), x4] [] := by
  have hi6 := hS.ok.le
  intro j
  induction j with
  | zero =>
    intro t A f T x4 htj hf hm hF
    refine r_iload_n 37 dX1_findThere_36 rfl rfl lo3 ?_
    refine r_aload_n 38 dX1_findThere_37 rfl rfl lo0 ?_
    refine r_getv 41 dX1_findThere_38 rfl g_X1_86_1 hm.t lo5 hS.il ?_
    first | refine r_icmp_geN 108 44 dX1_findThere_41 rfl (by decide) (by omega) (by omega) (fun hc41 => ?_) (fun hc41 => ?_) | refine r_icmp_ge 108 44 dX1_findThere_41 rfl (by decide) (fun hc41 => ?_) (fun hc41 => ?_)
    · exact r_vret dX1_findThere_108 rfl (Nat.le_refl _) (Nat.le_refl _) (qm hm hF ⟨rfl, f, rfl, fun x hx => (hf x hx).1⟩)
    · exact absurd hc41 (by omega)
  | succ j ih =>
    intro t A f T x4 htj hf hm hF
    have hb : ∀ (l : List Rd) (T : Nat → Nat) (x : Nat), T x ≤ 9999 → bfR S.2.1 herd l T x ≤ 9999 := by
      intro l
      induction l with
      | nil => intro T x h; exact h
      | cons q l ihl => intro T x h; exact ihl (rlq S.2.1 herd q T) x (rlx_le (rlx_le h))
    refine r_iload_n 37 dX1_findThere_36 rfl rfl lo3 ?_
    refine r_aload_n 38 dX1_findThere_37 rfl rfl lo0 ?_
    refine r_getv 41 dX1_findThere_38 rfl g_X1_86_1 hm.t lo5 hS.il ?_
    first | refine r_icmp_geN 108 44 dX1_findThere_41 rfl (by decide) (by omega) (by omega) (fun hc41 => ?_) (fun hc41 => ?_) | refine r_icmp_ge 108 44 dX1_findThere_41 rfl (by decide) (fun hc41 => ?_) (fun hc41 => ?_)
    · exact absurd hc41 (by omega)
    · refine r_iconst 45 dX1_findThere_44 rfl ic_0 ?_
      refine r_istore 47 dX1_findThere_45 rfl so4 rfl ?_
      refine lc_X1_findThere hS hJ S.2.2.1.length 0 A f T (by omega) hf (fun A f' x4 hf' hm hF => ?_) hm hF
      refine r_iinc 105 dX1_findThere_102 rfl lo3 inc1 so3 rfl ?_
      refine r_goto 36 dX1_findThere_105 (by decide) ?_
      exact ih (t + 1) A f' (bfR S.2.1 herd S.2.2.1 T) _ (by omega) (fun x hx => ⟨hf' x hx, hb _ _ _ (hf x hx).2⟩) hm hF

set_option maxHeartbeats 4000000 in
theorem li_X1_findThere {w : WE} {A0 : Hp} {m : MT} {S : ST} {herd : Bool} {f0 h0 : Nat} (hS : MS m S) (hJ : JR m S.2.1 S.2.2.1 herd) (hf0 : f0 < S.1) (hh0 : h0 ≤ 2000) : ∀ (j t : Nat) (A : Hp) (f : Nat → Int32) (x4 : Option Value), t + j = S.1 → (∀ x, x < t → f x = nI (bf0 f0 h0 x)) → MR w A (m.1, va_up m.2 18 f) → Fm w A0 A → Rn w mX1_findThere (rmX 2 0 0) (ZX w (QM w A0 (fun v m' => v = none ∧ (fun m' => ∃ f : Nat → Int32, m' = (m.1, va_up m.2 18 f) ∧ ∀ x, x < S.1 → f x = nI (bf S.1 S.2.1 herd S.2.2.1 f0 h0 x)) m')) 0 0) 0 0 A 2 [some (.ref (mb w)), some (.int (nI f0)), some (.int (nI h0)), some (.int (nI t)), x4] [] := by
  have hi6 := hS.ok.le
  intro j
  induction j with
  | zero =>
    intro t A f x4 htj hf hm hF
    refine r_iload_n 3 dX1_findThere_2 rfl rfl lo3 ?_
    refine r_aload_n 4 dX1_findThere_3 rfl rfl lo0 ?_
    refine r_getv 7 dX1_findThere_4 rfl g_X1_86_1 hm.t lo5 hS.il ?_
    first | refine r_icmp_geN 34 10 dX1_findThere_7 rfl (by decide) (by omega) (by omega) (fun hc7 => ?_) (fun hc7 => ?_) | refine r_icmp_ge 34 10 dX1_findThere_7 rfl (by decide) (fun hc7 => ?_) (fun hc7 => ?_)
    · refine r_iconst 35 dX1_findThere_34 rfl ic_0 ?_
      refine r_istore_n 36 dX1_findThere_35 rfl rfl so3 rfl ?_
      exact ls_X1_findThere hS hJ S.1 0 A f (bf0 f0 h0) _ (by omega) (fun x hx => ⟨hf x (by omega), by unfold bf0; split <;> omega⟩) hm hF
    · exact absurd hc7 (by omega)
  | succ j ih =>
    intro t A f x4 htj hf hm hF
    refine r_iload_n 3 dX1_findThere_2 rfl rfl lo3 ?_
    refine r_aload_n 4 dX1_findThere_3 rfl rfl lo0 ?_
    refine r_getv 7 dX1_findThere_4 rfl g_X1_86_1 hm.t lo5 hS.il ?_
    first | refine r_icmp_geN 34 10 dX1_findThere_7 rfl (by decide) (by omega) (by omega) (fun hc7 => ?_) (fun hc7 => ?_) | refine r_icmp_ge 34 10 dX1_findThere_7 rfl (by decide) (fun hc7 => ?_) (fun hc7 => ?_)
    · exact absurd hc7 (by omega)
    · refine r_aload_n 11 dX1_findThere_10 rfl rfl lo0 ?_
      refine r_get 14 dX1_findThere_11 rfl g_X1_61_1 hm.t lo25 ?_
      refine r_iload_n 15 dX1_findThere_14 rfl rfl lo3 ?_
      refine r_iload_n 16 dX1_findThere_15 rfl rfl lo3 ?_
      refine r_iload_n 17 dX1_findThere_16 rfl rfl lo1 ?_
      first | refine r_icmp_neN 24 20 dX1_findThere_17 rfl (by decide) (by omega) (by omega) (fun hc17 => ?_) (fun hc17 => ?_) | refine r_icmp_ne 24 20 dX1_findThere_17 rfl (by decide) (fun hc17 => ?_) (fun hc17 => ?_)
      · refine r_sipush 27 dX1_findThere_24 rfl si_9999 ?_
        refine rm_iast (N := 6) 28 dX1_findThere_27 rfl hm hF (by decide) (by decide) _ rfl rfl (by omega) (by decide) (fun A hm hF => ?_)
        rw [bx_uu] at hm
        refine r_iinc 31 dX1_findThere_28 rfl lo3 inc1 so3 rfl ?_
        refine r_goto 2 dX1_findThere_31 (by decide) ?_
        refine ih (t + 1) A _ _ (by omega) (fun x hx => ?_) hm hF
        show upd f t _ x = _
        by_cases e : x = t
        · subst e
          rw [upd_s]
          unfold bf0
          first | rw [if_neg hc17] | rw [if_pos hc17]
        · rw [upd_n e]
          exact hf x (by omega)
      · refine r_iload_n 21 dX1_findThere_20 rfl rfl lo2 ?_
        refine r_goto 27 dX1_findThere_21 (by decide) ?_
        refine rm_iast (N := 6) 28 dX1_findThere_27 rfl hm hF (by decide) (by decide) _ rfl rfl (by omega) (by decide) (fun A hm hF => ?_)
        rw [bx_uu] at hm
        refine r_iinc 31 dX1_findThere_28 rfl lo3 inc1 so3 rfl ?_
        refine r_goto 2 dX1_findThere_31 (by decide) ?_
        refine ih (t + 1) A _ _ (by omega) (fun x hx => ?_) hm hF
        show upd f t _ x = _
        by_cases e : x = t
        · subst e
          rw [upd_s]
          unfold bf0
          first | rw [if_neg hc17] | rw [if_pos hc17]
        · rw [upd_n e]
          exact hf x (by omega)

set_option maxHeartbeats 4000000 in
theorem ev_X1_findThere {w : WE} {A : Hp} {m : MT} {S : ST} {herd : Bool} {f0 h0 : Nat} (hm : MR w A m) (hS : MS m S) (hJ : JR m S.2.1 S.2.2.1 herd) (hf0 : f0 < S.1) (hh0 : h0 ≤ 2000) : EvMv w mX1_findThere 2 [.ref (mb w), .int (nI f0), .int (nI h0)] A (fun m' => ∃ f : Nat → Int32, m' = (m.1, va_up m.2 18 f) ∧ ∀ x, x < S.1 → f x = nI (bf S.1 S.2.1 herd S.2.2.1 f0 h0 x)) := by
  refine Ev.mk 2 [some (.ref (mb w)), some (.int (nI f0)), some (.int (nI h0)), none, none] rfl plX1 (Nat.le_of_ble_eq_true rfl) ?_
  have hF : Fm w A A := Fm.rf
  refine r_iconst 1 dX1_findThere_0 rfl ic_0 ?_
  refine r_istore_n 2 dX1_findThere_1 rfl rfl so3 rfl ?_
  exact li_X1_findThere hS hJ hf0 hh0 S.1 0 A _ none (by omega) (fun x hx => absurd hx (by omega)) (hm.eta 18) hF

