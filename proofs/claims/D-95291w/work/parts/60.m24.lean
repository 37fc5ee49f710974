/-! THE REFERENCE: sea -/
set_option maxRecDepth 100000
theorem ev_sea_no {w : WE} {A : Hp} {m0 m : MT} {F n r : Nat} {g7 g8 g9 : Nat → Int32} {x : Nat} (hm : MR w A m) (J : RdM m0 m F r g7 g8 g9) (he : F + n ≤ 240) (hx : rsea (fun t => m0.2 3 (F + t)) n = .inl x) : EvMi w mX1_readSea 5 [.ref (mb w), .int (nI (F + n))] A (bI false) (fun m' => ∃ y r g7 g8 g9, RdM (va_up m0.1 11 y, m0.2) m' (F + x) r g7 g8 g9) :=
  (ev_X1_readSea hm J he).post (fun v A' q => by
    obtain ⟨m', q1, q3, q4⟩ := q
    unfold rseaQ at q1
    rw [hx] at q1
    exact ⟨m', q1, q3, q4⟩)
theorem ev_sea_ok {w : WE} {A : Hp} {m0 m : MT} {F n r : Nat} {g7 g8 g9 : Nat → Int32} {q : Nat × List Mo} (hm : MR w A m) (J : RdM m0 m F r g7 g8 g9) (he : F + n ≤ 240) (hx : rsea (fun t => m0.2 3 (F + t)) n = .inr q) : EvMi w mX1_readSea 5 [.ref (mb w), .int (nI (F + n))] A (bI true) (fun m' => q.2.length ≤ 3 ∧ ∃ p g7 g8 g9, RdM (va_up m0.1 11 (nI q.1), m0.2) m' p q.2.length g7 g8 g9 ∧ MoA g7 g8 g9 q.2) :=
  (ev_X1_readSea hm J he).post (fun v A' q => by
    obtain ⟨m', q1, q3, q4⟩ := q
    unfold rseaQ at q1
    rw [hx] at q1
    exact ⟨m', q1, q3, q4⟩)
set_option maxHeartbeats 4000000 in
theorem lp_X1_sea {w : WE} {A0 : Hp} {M : MT} {S' : ST} {N : Nat} {x1 x2 x3 x4 x5 : Option Value} {z6 : Int32} (hN : N ≤ 3) (hM6 : M.1 6 = nI N) (hE : ∀ m, CpM M m N → MS (va_up m.1 16 (nI 0), m.2) S') : ∀ (j t : Nat) (A : Hp) (m : MT), t + j = N → CpM M m t → MR w A m → Fm w A0 A → Rn w mX1_sea (rmX 6 0 0) (ZX w (QM w A0 (fun v m' => v = some (.int (nI N)) ∧ MS m' S')) 0 0) 0 0 A 103 [some (.ref (mb w)), x1, x2, x3, x4, x5, some (.int z6), some (.int (nI t))] [] := by
  intro j
  induction j with
  | zero =>
    intro t A m htj J hm hF
    have hmo : m.1 6 = nI N := by rw [J.1]; exact hM6
    have ht : t = N := by omega
    subst ht
    refine r_iload 105 dX1_sea_103 rfl lo7 ?_
    refine r_aload_n 106 dX1_sea_105 rfl rfl lo0 ?_
    refine r_getv 109 dX1_sea_106 rfl g_X1_120_1 hm.t lo6 hmo ?_
    first | refine r_icmp_geN 160 112 dX1_sea_109 rfl (by decide) (by omega) (by omega) (fun hc109 => ?_) (fun hc109 => ?_) | refine r_icmp_ge 160 112 dX1_sea_109 rfl (by decide) (fun hc109 => ?_) (fun hc109 => ?_)
    · refine r_aload_n 161 dX1_sea_160 rfl rfl lo0 ?_
      refine r_iconst 162 dX1_sea_161 rfl ic_0 ?_
      refine rm_put 165 dX1_sea_162 rfl hm hF g_X1_123_1 fw_1_16 rfl (by decide) (fun A hm hF => ?_)
      refine r_aload_n 166 dX1_sea_165 rfl rfl lo0 ?_
      refine r_getv 169 dX1_sea_166 rfl g_X1_120_1 hm.t lo6 hmo ?_
      exact r_iret dX1_sea_169 rfl (Nat.le_refl _) (Nat.le_refl _) (qm hm hF ⟨by first | rfl | exact rq hmo.symm, hE m J⟩)
    · exact absurd hc109 (by omega)
  | succ j ih =>
    intro t A m htj J hm hF
    have hmo : m.1 6 = nI N := by rw [J.1]; exact hM6
    have e7 := congrFun (J.2.1 7 (by decide) (by decide) (by decide)) t
    have e8 := congrFun (J.2.1 8 (by decide) (by decide) (by decide)) t
    have e9 := congrFun (J.2.1 9 (by decide) (by decide) (by decide)) t
    refine r_iload 105 dX1_sea_103 rfl lo7 ?_
    refine r_aload_n 106 dX1_sea_105 rfl rfl lo0 ?_
    refine r_getv 109 dX1_sea_106 rfl g_X1_120_1 hm.t lo6 hmo ?_
    first | refine r_icmp_geN 160 112 dX1_sea_109 rfl (by decide) (by omega) (by omega) (fun hc109 => ?_) (fun hc109 => ?_) | refine r_icmp_ge 160 112 dX1_sea_109 rfl (by decide) (fun hc109 => ?_) (fun hc109 => ?_)
    · exact absurd hc109 (by omega)
    · refine r_aload_n 113 dX1_sea_112 rfl rfl lo0 ?_
      refine r_get 116 dX1_sea_113 rfl g_X1_19_1 hm.t lo7 ?_
      refine r_iload 118 dX1_sea_116 rfl lo7 ?_
      refine r_aload_n 119 dX1_sea_118 rfl rfl lo0 ?_
      refine r_get 122 dX1_sea_119 rfl g_X1_28_1 hm.t lo13 ?_
      refine r_iload 124 dX1_sea_122 rfl lo7 ?_
      refine r_ialdv 125 dX1_sea_124 rfl hm.a7 _ rfl e7 (by omega) (by decide) ?_
      refine rm_iast (N := 3) 126 dX1_sea_125 rfl hm hF (by decide) (by decide) _ rfl rfl (by omega) (by decide) (fun A hm hF => ?_)
      refine r_aload_n 127 dX1_sea_126 rfl rfl lo0 ?_
      refine r_get 130 dX1_sea_127 rfl g_X1_22_1 hm.t lo8 ?_
      refine r_iload 132 dX1_sea_130 rfl lo7 ?_
      refine r_aload_n 133 dX1_sea_132 rfl rfl lo0 ?_
      refine r_get 136 dX1_sea_133 rfl g_X1_31_1 hm.t lo14 ?_
      refine r_iload 138 dX1_sea_136 rfl lo7 ?_
      refine r_ialdv 139 dX1_sea_138 rfl hm.a8 _ rfl (show m.2 8 t = _ from e8) (by omega) (by decide) ?_
      refine rm_iast (N := 3) 140 dX1_sea_139 rfl hm hF (by decide) (by decide) _ rfl rfl (by omega) (by decide) (fun A hm hF => ?_)
      refine r_aload_n 141 dX1_sea_140 rfl rfl lo0 ?_
      refine r_get 144 dX1_sea_141 rfl g_X1_25_1 hm.t lo9 ?_
      refine r_iload 146 dX1_sea_144 rfl lo7 ?_
      refine r_aload_n 147 dX1_sea_146 rfl rfl lo0 ?_
      refine r_get 150 dX1_sea_147 rfl g_X1_34_1 hm.t lo15 ?_
      refine r_iload 152 dX1_sea_150 rfl lo7 ?_
      refine r_ialdv 153 dX1_sea_152 rfl hm.a9 _ rfl (show m.2 9 t = _ from e9) (by omega) (by decide) ?_
      refine rm_iast (N := 3) 154 dX1_sea_153 rfl hm hF (by decide) (by decide) _ rfl rfl (by omega) (by decide) (fun A hm hF => ?_)
      refine r_iinc 157 dX1_sea_154 rfl lo7 inc1 so7 rfl ?_
      refine r_goto 103 dX1_sea_157 (by decide) ?_
      exact ih (t + 1) A _ (by omega) J.step hm hF

theorem MS.read {m m' : MT} {S : ST} {F r : Nat} {y : Int32} {g7 g8 g9 : Nat → Int32} (hS : MS m S) (J : RdM (va_up (va_up m.1 0 (nI 0), m.2).1 11 y, (va_up m.1 0 (nI 0), m.2).2) m' F r g7 g8 g9) : MS m' (sF S (nI 0)) := by
  have h := hS.fault (nI 0)
  obtain ⟨a1, a2, a3, a4, a5, a6, a7⟩ := h
  obtain ⟨-, -, -, -, -, e1, e2⟩ := J
  have f5 := e1 5 (by decide) (by decide)
  have f6 := e1 6 (by decide) (by decide)
  have f16 := e1 16 (by decide) (by decide)
  have f1 := e1 1 (by decide) (by decide)
  have f0 := e1 0 (by decide) (by decide)
  refine ⟨f5.trans a1, ⟨f6.trans a2.1, a2.2.1, fun i q hq => ?_⟩, ⟨f16.trans a3.1, a3.2.1, fun i q hq => ?_⟩, f1.trans a4, f0.trans a5, fun k hk => ?_, a7⟩
  · rw [e2 4 (by decide) (by decide) (by decide), e2 5 (by decide) (by decide) (by decide), e2 6 (by decide) (by decide) (by decide)]
    exact a2.2.2 i q hq
  · rw [e2 10 (by decide) (by decide) (by decide), e2 11 (by decide) (by decide) (by decide), e2 12 (by decide) (by decide) (by decide), e2 13 (by decide) (by decide) (by decide), e2 14 (by decide) (by decide) (by decide), e2 15 (by decide) (by decide) (by decide)]
    exact a3.2.2 i q hq
  · rw [e2 1 (by decide) (by decide) (by decide), e2 2 (by decide) (by decide) (by decide), e2 3 (by decide) (by decide) (by decide)]
    exact a6 k hk
theorem MS.seaR {m M mm : MT} {S : ST} {il F : Nat} {l : List Mo} {g7 g8 g9 : Nat → Int32} (hS : MS m S) (J : RdM (va_up (va_up m.1 0 (nI 0), m.2).1 11 (nI il), (va_up m.1 0 (nI 0), m.2).2) M F l.length g7 g8 g9) (hA : MoA g7 g8 g9 l) (hl : 2 ≤ il ∧ il ≤ 6 ∧ 1 ≤ l.length) (h3 : l.length ≤ 3) (C : CpM (va_up (va_up M.1 5 (nI il)) 6 (nI l.length), M.2) mm l.length) : MS (va_up mm.1 16 (nI 0), mm.2) (il, l, [], S.2.2.2.1, nI 0, S.2.2.2.2.2) := by
  obtain ⟨c1, c2, c3⟩ := C
  obtain ⟨-, -, j7, j8, j9, e1, e2⟩ := J
  refine (hS.fault (nI 0)).sea hl h3 ?_ ?_ ?_ ?_ ?_ (fun i q hq => ?_) (fun k k1 k2 => ?_)
  · show va_up mm.1 16 (nI 0) 5 = _
    rw [c1]
    rfl
  · show va_up mm.1 16 (nI 0) 6 = _
    rw [c1]
    rfl
  · rfl
  · show va_up mm.1 16 (nI 0) 1 = _
    rw [c1]
    exact e1 1 (by decide) (by decide)
  · show va_up mm.1 16 (nI 0) 0 = _
    rw [c1]
    exact e1 0 (by decide) (by decide)
  · obtain ⟨d1, d2, d3⟩ := c3 i (List.getElem?_eq_some_iff.mp hq).1
    obtain ⟨b1, b2, b3, b4⟩ := hA i q hq
    refine ⟨?_, ?_, ?_, b4⟩
    · show mm.2 4 i = _
      rw [d1]
      show M.2 7 i = _
      rw [j7]
      exact b1
    · show mm.2 5 i = _
      rw [d2]
      show M.2 8 i = _
      rw [j8]
      exact b2
    · show mm.2 6 i = _
      rw [d3]
      show M.2 9 i = _
      rw [j9]
      exact b3
  · show mm.2 k = _
    rw [c2 k (by omega) (by omega) (by omega)]
    exact e2 k (by omega) (by omega) (by omega)
set_option maxHeartbeats 4000000 in
theorem ev_X1_sea {w : WE} {A : Hp} {m : MT} {S : ST} {k sort i n : Int32} (hm : MR w A m) (hS : MS m S) : Ev w mX1_sea 6 0 0 [.ref (mb w), .int k, .int sort, .int i, .int n] A (QM w A (fun r m' => r = some (.int (sp_sea S k sort i n).1) ∧ MS m' (sp_sea S k sort i n).2)) := by
  refine Ev.mk 3 [some (.ref (mb w)), some (.int k), some (.int sort), some (.int i), some (.int n), none, none, none] rfl plX1 (Nat.le_of_ble_eq_true rfl) ?_
  have hF : Fm w A A := Fm.rf
  refine r_aload_n 1 dX1_sea_0 rfl rfl lo0 ?_
  refine r_iconst 2 dX1_sea_1 rfl ic_0 ?_
  refine rm_put 5 dX1_sea_2 rfl hm hF g_X1_76_1 fw_1_0 rfl (by decide) (fun A hm hF => ?_)
  refine r_iload_n 6 dX1_sea_5 rfl rfl lo1 ?_
  refine r_cS1 9 dX1_sea_6 rfl sS_X1_96 (by rfl) ev_X1_isSheet ?_
  refine r_if_neB 14 12 dX1_sea_9 rfl (by decide) (fun hc9 => ?_) (fun hc9 => ?_)
  · refine r_iload_n 15 dX1_sea_14 rfl rfl lo2 ?_
    refine r_cS1 18 dX1_sea_15 rfl sS_X1_100 (by rfl) ev_X1_isSort ?_
    refine r_if_neB 24 21 dX1_sea_18 rfl (by decide) (fun hc18 => ?_) (fun hc18 => ?_)
    · obtain ⟨k, hk, rfl⟩ := sheet_ok hc9
      have hag := ag_le (S.2.2.2.2.2 k) sort i n
      refine r_aload_n 25 dX1_sea_24 rfl rfl lo0 ?_
      refine r_iload_n 26 dX1_sea_25 rfl rfl lo1 ?_
      refine r_iload_n 27 dX1_sea_26 rfl rfl lo2 ?_
      refine r_iload_n 28 dX1_sea_27 rfl rfl lo3 ?_
      refine r_iload 30 dX1_sea_28 rfl lo4 ?_
      refine r_cV4 33 dX1_sea_30 rfl sV_X1_103_1 hm.t (by rfl) (show EvI w mX1_against 1 _ A (nI (ag (S.2.2.2.2.2 k) sort i n)) from ev_X1_against (S := sF S (nI 0)) hm (hS.fault (nI 0)) hk) ?_
      refine r_istore 35 dX1_sea_33 rfl so5 rfl ?_
      refine r_iload 37 dX1_sea_35 rfl lo5 ?_
      first | refine r_if_eqN 47 40 dX1_sea_37 rfl (by decide) (by omega) (fun hc37 => ?_) (fun hc37 => ?_) | refine r_if_eq 47 40 dX1_sea_37 rfl (by decide) (fun hc37 => ?_) (fun hc37 => ?_)
      · obtain ⟨q, i', n', hq, rfl, rfl, rfl, hin, hl60⟩ := ag_0 hc37 (fun q hq => ((hS.sh k hk).2 q hq).2.2.2.1)
        obtain ⟨h1, l1, h2, l2, h3⟩ := (hS.sh k hk).2 q hq
        have hcg : ∀ t, t < n' → (fun t => m.2 3 (60 * k + i' + t)) t = (fun t => q.2.2 (i' + t)) t := fun t ht => by
          show m.2 3 (60 * k + i' + t) = _
          rw [Nat.add_assoc]
          exact h3 (i' + t) (by omega)
        obtain ⟨r0, hr0⟩ := u_nI (m.1 12)
        rcases hz : rsea (fun t => q.2.2 (i' + t)) n' with x | ⟨il, l⟩
        · skip
          refine r_bipush 49 dX1_sea_47 rfl bi_60 ?_
          refine r_iload_n 50 dX1_sea_49 rfl rfl lo1 ?_
          first | refine r_imulN 51 dX1_sea_50 rfl ?_ | refine r_imul 51 dX1_sea_50 rfl ?_
          refine r_iload_n 52 dX1_sea_51 rfl rfl lo3 ?_
          first | refine r_iaddN 53 dX1_sea_52 rfl ?_ | refine r_iadd 53 dX1_sea_52 rfl ?_
          refine r_istore 55 dX1_sea_53 rfl so6 rfl ?_
          refine r_aload_n 56 dX1_sea_55 rfl rfl lo0 ?_
          refine r_iload 58 dX1_sea_56 rfl lo6 ?_
          refine rm_put 61 dX1_sea_58 rfl hm hF g_X1_89_1 fw_1_10 rfl (by decide) (fun A hm hF => ?_)
          have J : RdM (va_up m.1 0 (nI 0), m.2) (va_up (va_up m.1 0 (nI 0)) 10 (nI (60 * k + i')), m.2) (60 * k + i') r0 (m.2 7) (m.2 8) (m.2 9) := RdM.wat (m0 := (va_up m.1 0 (nI 0), m.2)) (m := (va_up m.1 0 (nI 0), m.2)) (p := (m.1 10).toBitVec.toNat) ⟨by show m.1 10 = _; apply Int32.toBitVec.inj; simp [nI, Int32.ofNat], hr0, rfl, rfl, rfl, fun _ _ _ => rfl, fun _ _ _ _ => rfl⟩ _
          refine r_aload_n 62 dX1_sea_61 rfl rfl lo0 ?_
          refine r_iload 64 dX1_sea_62 rfl lo6 ?_
          refine r_iload 66 dX1_sea_64 rfl lo4 ?_
          first | refine r_iaddN 67 dX1_sea_66 rfl ?_ | refine r_iadd 67 dX1_sea_66 rfl ?_
          refine rm_i1 70 dX1_sea_67 rfl sV_X1_111_1 hm hF (by rfl) (ev_sea_no (m0 := (va_up m.1 0 (nI 0), m.2)) hm J (by omega) (show rsea (fun t => m.2 3 (60 * k + i' + t)) n' = .inl x from (rsea_cg hcg).trans hz)) (fun A m' hP hm hF => ?_)
          obtain ⟨y, r, g7, g8, g9, J⟩ := hP
          refine r_if_neB 84 73 dX1_sea_70 rfl (by decide) (fun hc70 => ?_) (fun hc70 => ?_)
          · exact absurd hc70 (by decide)
          · refine r_bipush 75 dX1_sea_73 rfl bi_m100 ?_
            refine r_aload_n 76 dX1_sea_75 rfl rfl lo0 ?_
            refine r_getv 79 dX1_sea_76 rfl g_X1_89_1 hm.t lo10 J.hp ?_
            refine r_iload 81 dX1_sea_79 rfl lo6 ?_
            first | refine r_isubN 82 dX1_sea_81 rfl (by omega) ?_ | refine r_isub 82 dX1_sea_81 rfl ?_
            first | refine r_isubN 83 dX1_sea_82 rfl (by omega) ?_ | refine r_isub 83 dX1_sea_82 rfl ?_
            exact r_iret dX1_sea_83 rfl (Nat.le_refl _) (Nat.le_refl _) (qm hm hF (by
                have e : sp_sea S (nI k) (nI q.1) (nI i') (nI n') = (nI 0 - nI 100 - nI x, sF S (nI 0)) := by
                  unfold sp_sea
                  rw [look_ok hk hc18 rfl hc37 hq (by omega) (by omega), hz]
                rw [e]
                refine ⟨?_, hS.read J⟩
                rw [show 60 * k + i' + x - (60 * k + i') = x by omega, show (-100 : Int32) = nI 0 - nI 100 by decide]))
        · skip
          refine r_bipush 49 dX1_sea_47 rfl bi_60 ?_
          refine r_iload_n 50 dX1_sea_49 rfl rfl lo1 ?_
          first | refine r_imulN 51 dX1_sea_50 rfl ?_ | refine r_imul 51 dX1_sea_50 rfl ?_
          refine r_iload_n 52 dX1_sea_51 rfl rfl lo3 ?_
          first | refine r_iaddN 53 dX1_sea_52 rfl ?_ | refine r_iadd 53 dX1_sea_52 rfl ?_
          refine r_istore 55 dX1_sea_53 rfl so6 rfl ?_
          refine r_aload_n 56 dX1_sea_55 rfl rfl lo0 ?_
          refine r_iload 58 dX1_sea_56 rfl lo6 ?_
          refine rm_put 61 dX1_sea_58 rfl hm hF g_X1_89_1 fw_1_10 rfl (by decide) (fun A hm hF => ?_)
          have J : RdM (va_up m.1 0 (nI 0), m.2) (va_up (va_up m.1 0 (nI 0)) 10 (nI (60 * k + i')), m.2) (60 * k + i') r0 (m.2 7) (m.2 8) (m.2 9) := RdM.wat (m0 := (va_up m.1 0 (nI 0), m.2)) (m := (va_up m.1 0 (nI 0), m.2)) (p := (m.1 10).toBitVec.toNat) ⟨by show m.1 10 = _; apply Int32.toBitVec.inj; simp [nI, Int32.ofNat], hr0, rfl, rfl, rfl, fun _ _ _ => rfl, fun _ _ _ _ => rfl⟩ _
          refine r_aload_n 62 dX1_sea_61 rfl rfl lo0 ?_
          refine r_iload 64 dX1_sea_62 rfl lo6 ?_
          refine r_iload 66 dX1_sea_64 rfl lo4 ?_
          first | refine r_iaddN 67 dX1_sea_66 rfl ?_ | refine r_iadd 67 dX1_sea_66 rfl ?_
          refine rm_i1 70 dX1_sea_67 rfl sV_X1_111_1 hm hF (by rfl) (ev_sea_ok (m0 := (va_up m.1 0 (nI 0), m.2)) hm J (by omega) (show rsea (fun t => m.2 3 (60 * k + i' + t)) n' = .inr (il, l) from (rsea_cg hcg).trans hz)) (fun A m' hP hm hF => ?_)
          obtain ⟨hl3, p, g7, g8, g9, J, hMA⟩ := hP
          refine r_if_neB 84 73 dX1_sea_70 rfl (by decide) (fun hc70 => ?_) (fun hc70 => ?_)
          · refine r_aload_n 85 dX1_sea_84 rfl rfl lo0 ?_
            refine r_aload_n 86 dX1_sea_85 rfl rfl lo0 ?_
            refine r_getv 89 dX1_sea_86 rfl g_X1_114_1 hm.t lo11 (J.2.2.2.2.2.1 11 (by decide) (by decide)) ?_
            refine rm_put 92 dX1_sea_89 rfl hm hF g_X1_86_1 fw_1_5 rfl (by decide) (fun A hm hF => ?_)
            refine r_aload_n 93 dX1_sea_92 rfl rfl lo0 ?_
            refine r_aload_n 94 dX1_sea_93 rfl rfl lo0 ?_
            refine r_getv 97 dX1_sea_94 rfl g_X1_117_1 hm.t lo12 J.hr ?_
            refine rm_put 100 dX1_sea_97 rfl hm hF g_X1_120_1 fw_1_6 rfl (by decide) (fun A hm hF => ?_)
            refine r_iconst 101 dX1_sea_100 rfl ic_0 ?_
            refine r_istore 103 dX1_sea_101 rfl so7 rfl ?_
            have hok := rsea_ok hz
            have e : sp_sea S (nI k) (nI q.1) (nI i') (nI n') = (nI l.length, (il, l, [], S.2.2.2.1, nI 0, S.2.2.2.2.2)) := by
              unfold sp_sea
              rw [look_ok hk hc18 rfl hc37 hq (by omega) (by omega), hz]
            rw [e]
            refine lp_X1_sea (N := l.length) hl3 (by simp [va_up]) (fun mm Jm => ?_) l.length 0 A _ (by omega) ⟨rfl, fun _ _ _ _ => rfl, fun i hi => absurd hi (by omega)⟩ hm hF
            exact hS.seaR J hMA hok hl3 Jm
          · exact absurd hc70 (by decide)
      · refine r_aload_n 41 dX1_sea_40 rfl rfl lo0 ?_
        refine r_iload 43 dX1_sea_41 rfl lo5 ?_
        refine rm_i1 46 dX1_sea_43 rfl sV_X1_107_1 hm hF (by rfl) (ev_X1_fails hm) (fun A m' hP hm hF => ?_)
        subst hP
        exact r_iret dX1_sea_46 rfl (Nat.le_refl _) (Nat.le_refl _) (qm hm hF (by unfold sp_sea; rw [look_bad hk hc18 rfl hc37 rfl]; exact ⟨rfl, hS.fault _⟩))
    · refine r_bipush 23 dX1_sea_21 rfl bi_m2 ?_
      exact r_iret dX1_sea_23 rfl (Nat.le_refl _) (Nat.le_refl _) (qm hm hF (by unfold sp_sea; rw [look_out hc9 (Or.inl hc18)]; exact ⟨rfl, hS.fault (nI 0)⟩))
  · refine r_iconst 13 dX1_sea_12 rfl ic_m1 ?_
    exact r_iret dX1_sea_13 rfl (Nat.le_refl _) (Nat.le_refl _) (qm hm hF (by unfold sp_sea; rw [look_no hc9]; exact ⟨rfl, hS.fault (nI 0)⟩))

