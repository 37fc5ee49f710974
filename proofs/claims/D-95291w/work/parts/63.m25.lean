/-! THE REFERENCE: roadTo, findWay, way -/
set_option maxRecDepth 100000
set_option maxHeartbeats 4000000 in
theorem lp_X1_roadTo {w : WE} {A : Hp} {m : MT} {S : ST} {herd : Bool} {T : Nat → Nat} {x : Nat} (hm : MR w A m) (hS : MS m S) (hJ : JR m S.2.1 S.2.2.1 herd) (hT : ThR m S.1 T) (hx : x < S.1) (h2k : T x ≤ 2000) : ∀ (j i : Nat) (b : Option Nat) (x4 x5 x6 : Option Value), i + j = S.2.2.1.length → (∀ k, b = some k → k < S.2.2.1.length) → Rn w mX1_roadTo (rmX 1 0 0) (ZX w (QV (.int (oI (rdt S.2.1 herd S.2.2.1 T x j i b))) A) 0 0) 0 0 A 5 [some (.ref (mb w)), some (.int (nI x)), some (.int (oI b)), some (.int (nI i)), x4, x5, x6] [] := by
  have hl10 := hS.rd.2.1
  have hi6 := hS.ok.le
  intro j
  induction j with
  | zero =>
    intro i b x4 x5 x6 hij hb
    refine r_iload_n 6 dX1_roadTo_5 rfl rfl lo3 ?_
    refine r_aload_n 7 dX1_roadTo_6 rfl rfl lo0 ?_
    refine r_getv 10 dX1_roadTo_7 rfl g_X1_123_1 hm.t lo16 hS.rd.1 ?_
    first | refine r_icmp_geN 148 13 dX1_roadTo_10 rfl (by decide) (by omega) (by omega) (fun hc10 => ?_) (fun hc10 => ?_) | refine r_icmp_ge 148 13 dX1_roadTo_10 rfl (by decide) (fun hc10 => ?_) (fun hc10 => ?_)
    · refine r_iload_n 149 dX1_roadTo_148 rfl rfl lo2 ?_
      exact r_iret dX1_roadTo_149 rfl (Nat.le_refl _) (Nat.le_refl _) ⟨rfl, rfl⟩
    · exact absurd hc10 (by omega)
  | succ j ih =>
    intro i b x4 x5 x6 hij hb
    obtain ⟨q, hq⟩ := get_of_lt (l := S.2.2.1) (i := i) (by omega)
    obtain ⟨h10, h11, h12, h13, h14, h15, hok⟩ := hS.rd.2.2 i q hq
    have htk := tkO_le (herd := herd) hok
    obtain ⟨o1, o2, o3, o4, o5⟩ := hok
    have hj := hJ i q hq
    have hst := rdt_s (ms := S.2.1) (herd := herd) (T := T) (x := x) (j := j) (b := b) hq
    by_cases h1 : q.2.1 = x
    · have hy := o3
      have hty := (hT q.2.2.1 hy).2
      by_cases h3 : tkO herd q ≤ T x
      · have h16 := hj.2 (T x - tkO herd q) (by omega)
        have hen := en_le (ms := S.2.1) (q := q) (tk := tkO herd q) (h := T x - tkO herd q) (by omega)
        rcases b with _ | k
        · skip
          refine r_iload_n 6 dX1_roadTo_5 rfl rfl lo3 ?_
          refine r_aload_n 7 dX1_roadTo_6 rfl rfl lo0 ?_
          refine r_getv 10 dX1_roadTo_7 rfl g_X1_123_1 hm.t lo16 hS.rd.1 ?_
          first | refine r_icmp_geN 148 13 dX1_roadTo_10 rfl (by decide) (by omega) (by omega) (fun hc10 => ?_) (fun hc10 => ?_) | refine r_icmp_ge 148 13 dX1_roadTo_10 rfl (by decide) (fun hc10 => ?_) (fun hc10 => ?_)
          · exact absurd hc10 (by omega)
          · refine r_aload_n 14 dX1_roadTo_13 rfl rfl lo0 ?_
            refine r_get 17 dX1_roadTo_14 rfl g_X1_40_1 hm.t lo18 ?_
            refine r_iload_n 18 dX1_roadTo_17 rfl rfl lo3 ?_
            refine r_ialdv 19 dX1_roadTo_18 rfl hm.a11 _ rfl h11 (by omega) (by decide) ?_
            refine r_iload_n 20 dX1_roadTo_19 rfl rfl lo1 ?_
            first | refine r_icmp_neN 32 23 dX1_roadTo_20 rfl (by decide) (by omega) (by omega) (fun hc20 => ?_) (fun hc20 => ?_) | refine r_icmp_ne 32 23 dX1_roadTo_20 rfl (by decide) (fun hc20 => ?_) (fun hc20 => ?_)
            · exact absurd h1 hc20
            · refine r_aload_n 24 dX1_roadTo_23 rfl rfl lo0 ?_
              refine r_get 27 dX1_roadTo_24 rfl g_X1_43_1 hm.t lo19 ?_
              refine r_iload_n 28 dX1_roadTo_27 rfl rfl lo3 ?_
              refine r_ialdv 29 dX1_roadTo_28 rfl hm.a12 _ rfl h12 (by omega) (by decide) ?_
              refine r_goto 53 dX1_roadTo_29 (by decide) ?_
              refine r_istore 55 dX1_roadTo_53 rfl so4 rfl ?_
              refine r_aload_n 56 dX1_roadTo_55 rfl rfl lo0 ?_
              refine r_get 59 dX1_roadTo_56 rfl g_X1_61_1 hm.t lo25 ?_
              refine r_iload_n 60 dX1_roadTo_59 rfl rfl lo1 ?_
              refine r_ialdv 61 dX1_roadTo_60 rfl hm.a18 _ rfl (hT x hx).1 (by omega) (by decide) ?_
              refine r_aload_n 62 dX1_roadTo_61 rfl rfl lo0 ?_
              refine r_get 65 dX1_roadTo_62 rfl g_X1_58_1 hm.t lo24 ?_
              refine r_iload_n 66 dX1_roadTo_65 rfl rfl lo3 ?_
              refine r_ialdv 67 dX1_roadTo_66 rfl hm.a17 _ rfl hj.1 (by omega) (by decide) ?_
              first | refine r_isubN 68 dX1_roadTo_67 rfl (by omega) ?_ | refine r_isub 68 dX1_roadTo_67 rfl ?_
              refine r_istore 70 dX1_roadTo_68 rfl so5 rfl ?_
              refine r_iload 72 dX1_roadTo_70 rfl lo4 ?_
              refine r_bipush 74 dX1_roadTo_72 rfl bi_m9 ?_
              refine r_icmp_eq 111 77 dX1_roadTo_74 rfl (by decide) (fun hc74 => ?_) (fun hc74 => ?_)
              · exact absurd hc74 (nI_m9 (by omega))
              · refine r_aload_n 78 dX1_roadTo_77 rfl rfl lo0 ?_
                refine r_get 81 dX1_roadTo_78 rfl g_X1_61_1 hm.t lo25 ?_
                refine r_iload 83 dX1_roadTo_81 rfl lo4 ?_
                refine r_ialdv 84 dX1_roadTo_83 rfl hm.a18 _ rfl (hT q.2.2.1 hy).1 (by omega) (by decide) ?_
                refine r_iload 86 dX1_roadTo_84 rfl lo5 ?_
                first | refine r_icmp_gtN 111 89 dX1_roadTo_86 rfl (by decide) (by omega) (by omega) (fun hc86 => ?_) (fun hc86 => ?_) | refine r_icmp_gt 111 89 dX1_roadTo_86 rfl (by decide) (fun hc86 => ?_) (fun hc86 => ?_)
                · refine r_iconst 112 dX1_roadTo_111 rfl ic_0 ?_
                  refine r_istore 114 dX1_roadTo_112 rfl so6 rfl ?_
                  refine r_iload 116 dX1_roadTo_114 rfl lo6 ?_
                  first | refine r_if_eqN 142 119 dX1_roadTo_116 rfl (by decide) (by omega) (fun hc116 => ?_) (fun hc116 => ?_) | refine r_if_eq 142 119 dX1_roadTo_116 rfl (by decide) (fun hc116 => ?_) (fun hc116 => ?_)
                  · refine r_iinc 145 dX1_roadTo_142 rfl lo3 inc1 so3 rfl ?_
                    refine r_goto 5 dX1_roadTo_145 (by decide) ?_
                    rw [hst, if_neg (fun z => by rw [show mayB S.2.1 herd T x q = false from (may_1 h1).trans (decide_eq_false (fun z => absurd z.2.1 (by omega)))] at z; exact absurd z.1 (by decide))]
                    exact ih (i + 1) _ _ _ _ (by omega) hb
                  · exact absurd rfl hc116
                · refine r_aload_n 90 dX1_roadTo_89 rfl rfl lo0 ?_
                  refine r_get 93 dX1_roadTo_90 rfl g_X1_55_1 hm.t lo23 ?_
                  refine r_sipush 96 dX1_roadTo_93 rfl si_2001 ?_
                  refine r_iload_n 97 dX1_roadTo_96 rfl rfl lo3 ?_
                  first | refine r_imulN 98 dX1_roadTo_97 rfl ?_ | refine r_imul 98 dX1_roadTo_97 rfl ?_
                  refine r_iload 100 dX1_roadTo_98 rfl lo5 ?_
                  first | refine r_iaddN 101 dX1_roadTo_100 rfl ?_ | refine r_iadd 101 dX1_roadTo_100 rfl ?_
                  refine r_ialdv 102 dX1_roadTo_101 rfl hm.a16 _ rfl h16 (by omega) (by decide) ?_
                  refine r_iload 104 dX1_roadTo_102 rfl lo5 ?_
                  first | refine r_icmp_neN 111 107 dX1_roadTo_104 rfl (by decide) (by omega) (by omega) (fun hc104 => ?_) (fun hc104 => ?_) | refine r_icmp_ne 111 107 dX1_roadTo_104 rfl (by decide) (fun hc104 => ?_) (fun hc104 => ?_)
                  · refine r_iconst 112 dX1_roadTo_111 rfl ic_0 ?_
                    refine r_istore 114 dX1_roadTo_112 rfl so6 rfl ?_
                    refine r_iload 116 dX1_roadTo_114 rfl lo6 ?_
                    first | refine r_if_eqN 142 119 dX1_roadTo_116 rfl (by decide) (by omega) (fun hc116 => ?_) (fun hc116 => ?_) | refine r_if_eq 142 119 dX1_roadTo_116 rfl (by decide) (fun hc116 => ?_) (fun hc116 => ?_)
                    · refine r_iinc 145 dX1_roadTo_142 rfl lo3 inc1 so3 rfl ?_
                      refine r_goto 5 dX1_roadTo_145 (by decide) ?_
                      rw [hst, if_neg (fun z => by rw [show mayB S.2.1 herd T x q = false from (may_1 h1).trans (decide_eq_false (fun z => hc104 (by rw [z.2.2]; rfl)))] at z; exact absurd z.1 (by decide))]
                      exact ih (i + 1) _ _ _ _ (by omega) hb
                    · exact absurd rfl hc116
                  · refine r_iconst 108 dX1_roadTo_107 rfl ic_1 ?_
                    refine r_goto 112 dX1_roadTo_108 (by decide) ?_
                    refine r_istore 114 dX1_roadTo_112 rfl so6 rfl ?_
                    refine r_iload 116 dX1_roadTo_114 rfl lo6 ?_
                    first | refine r_if_eqN 142 119 dX1_roadTo_116 rfl (by decide) (by omega) (fun hc116 => ?_) (fun hc116 => ?_) | refine r_if_eq 142 119 dX1_roadTo_116 rfl (by decide) (fun hc116 => ?_) (fun hc116 => ?_)
                    · exact absurd hc116 (by decide)
                    · refine r_iload_n 120 dX1_roadTo_119 rfl rfl lo2 ?_
                      refine r_bipush 122 dX1_roadTo_120 rfl bi_m9 ?_
                      refine r_icmp_eq 140 125 dX1_roadTo_122 rfl (by decide) (fun hc122 => ?_) (fun hc122 => ?_)
                      · refine r_iload_n 141 dX1_roadTo_140 rfl rfl lo3 ?_
                        refine r_istore_n 142 dX1_roadTo_141 rfl rfl so2 rfl ?_
                        refine r_iinc 145 dX1_roadTo_142 rfl lo3 inc1 so3 rfl ?_
                        refine r_goto 5 dX1_roadTo_145 (by decide) ?_
                        have hmay : mayB S.2.1 herd T x q = true := (may_1 h1).trans (decide_eq_true ⟨h3, hc86, en_some hc104 (by omega)⟩)
                        rw [hst, if_pos ⟨hmay, btr_n⟩]
                        exact ih (i + 1) (some i) _ _ _ (by omega) (fun k hk => by cases hk; omega)
                      · exact absurd rfl hc122
        · have hk := hb k rfl
          obtain ⟨p, hp⟩ := get_of_lt hk
          have hjk := hJ k p hp
          have htp := tkO_le (herd := herd) (hS.rd.2.2 k p hp).2.2.2.2.2.2
          refine r_iload_n 6 dX1_roadTo_5 rfl rfl lo3 ?_
          refine r_aload_n 7 dX1_roadTo_6 rfl rfl lo0 ?_
          refine r_getv 10 dX1_roadTo_7 rfl g_X1_123_1 hm.t lo16 hS.rd.1 ?_
          first | refine r_icmp_geN 148 13 dX1_roadTo_10 rfl (by decide) (by omega) (by omega) (fun hc10 => ?_) (fun hc10 => ?_) | refine r_icmp_ge 148 13 dX1_roadTo_10 rfl (by decide) (fun hc10 => ?_) (fun hc10 => ?_)
          · exact absurd hc10 (by omega)
          · refine r_aload_n 14 dX1_roadTo_13 rfl rfl lo0 ?_
            refine r_get 17 dX1_roadTo_14 rfl g_X1_40_1 hm.t lo18 ?_
            refine r_iload_n 18 dX1_roadTo_17 rfl rfl lo3 ?_
            refine r_ialdv 19 dX1_roadTo_18 rfl hm.a11 _ rfl h11 (by omega) (by decide) ?_
            refine r_iload_n 20 dX1_roadTo_19 rfl rfl lo1 ?_
            first | refine r_icmp_neN 32 23 dX1_roadTo_20 rfl (by decide) (by omega) (by omega) (fun hc20 => ?_) (fun hc20 => ?_) | refine r_icmp_ne 32 23 dX1_roadTo_20 rfl (by decide) (fun hc20 => ?_) (fun hc20 => ?_)
            · exact absurd h1 hc20
            · refine r_aload_n 24 dX1_roadTo_23 rfl rfl lo0 ?_
              refine r_get 27 dX1_roadTo_24 rfl g_X1_43_1 hm.t lo19 ?_
              refine r_iload_n 28 dX1_roadTo_27 rfl rfl lo3 ?_
              refine r_ialdv 29 dX1_roadTo_28 rfl hm.a12 _ rfl h12 (by omega) (by decide) ?_
              refine r_goto 53 dX1_roadTo_29 (by decide) ?_
              refine r_istore 55 dX1_roadTo_53 rfl so4 rfl ?_
              refine r_aload_n 56 dX1_roadTo_55 rfl rfl lo0 ?_
              refine r_get 59 dX1_roadTo_56 rfl g_X1_61_1 hm.t lo25 ?_
              refine r_iload_n 60 dX1_roadTo_59 rfl rfl lo1 ?_
              refine r_ialdv 61 dX1_roadTo_60 rfl hm.a18 _ rfl (hT x hx).1 (by omega) (by decide) ?_
              refine r_aload_n 62 dX1_roadTo_61 rfl rfl lo0 ?_
              refine r_get 65 dX1_roadTo_62 rfl g_X1_58_1 hm.t lo24 ?_
              refine r_iload_n 66 dX1_roadTo_65 rfl rfl lo3 ?_
              refine r_ialdv 67 dX1_roadTo_66 rfl hm.a17 _ rfl hj.1 (by omega) (by decide) ?_
              first | refine r_isubN 68 dX1_roadTo_67 rfl (by omega) ?_ | refine r_isub 68 dX1_roadTo_67 rfl ?_
              refine r_istore 70 dX1_roadTo_68 rfl so5 rfl ?_
              refine r_iload 72 dX1_roadTo_70 rfl lo4 ?_
              refine r_bipush 74 dX1_roadTo_72 rfl bi_m9 ?_
              refine r_icmp_eq 111 77 dX1_roadTo_74 rfl (by decide) (fun hc74 => ?_) (fun hc74 => ?_)
              · exact absurd hc74 (nI_m9 (by omega))
              · refine r_aload_n 78 dX1_roadTo_77 rfl rfl lo0 ?_
                refine r_get 81 dX1_roadTo_78 rfl g_X1_61_1 hm.t lo25 ?_
                refine r_iload 83 dX1_roadTo_81 rfl lo4 ?_
                refine r_ialdv 84 dX1_roadTo_83 rfl hm.a18 _ rfl (hT q.2.2.1 hy).1 (by omega) (by decide) ?_
                refine r_iload 86 dX1_roadTo_84 rfl lo5 ?_
                first | refine r_icmp_gtN 111 89 dX1_roadTo_86 rfl (by decide) (by omega) (by omega) (fun hc86 => ?_) (fun hc86 => ?_) | refine r_icmp_gt 111 89 dX1_roadTo_86 rfl (by decide) (fun hc86 => ?_) (fun hc86 => ?_)
                · refine r_iconst 112 dX1_roadTo_111 rfl ic_0 ?_
                  refine r_istore 114 dX1_roadTo_112 rfl so6 rfl ?_
                  refine r_iload 116 dX1_roadTo_114 rfl lo6 ?_
                  first | refine r_if_eqN 142 119 dX1_roadTo_116 rfl (by decide) (by omega) (fun hc116 => ?_) (fun hc116 => ?_) | refine r_if_eq 142 119 dX1_roadTo_116 rfl (by decide) (fun hc116 => ?_) (fun hc116 => ?_)
                  · refine r_iinc 145 dX1_roadTo_142 rfl lo3 inc1 so3 rfl ?_
                    refine r_goto 5 dX1_roadTo_145 (by decide) ?_
                    rw [hst, if_neg (fun z => by rw [show mayB S.2.1 herd T x q = false from (may_1 h1).trans (decide_eq_false (fun z => absurd z.2.1 (by omega)))] at z; exact absurd z.1 (by decide))]
                    exact ih (i + 1) _ _ _ _ (by omega) hb
                  · exact absurd rfl hc116
                · refine r_aload_n 90 dX1_roadTo_89 rfl rfl lo0 ?_
                  refine r_get 93 dX1_roadTo_90 rfl g_X1_55_1 hm.t lo23 ?_
                  refine r_sipush 96 dX1_roadTo_93 rfl si_2001 ?_
                  refine r_iload_n 97 dX1_roadTo_96 rfl rfl lo3 ?_
                  first | refine r_imulN 98 dX1_roadTo_97 rfl ?_ | refine r_imul 98 dX1_roadTo_97 rfl ?_
                  refine r_iload 100 dX1_roadTo_98 rfl lo5 ?_
                  first | refine r_iaddN 101 dX1_roadTo_100 rfl ?_ | refine r_iadd 101 dX1_roadTo_100 rfl ?_
                  refine r_ialdv 102 dX1_roadTo_101 rfl hm.a16 _ rfl h16 (by omega) (by decide) ?_
                  refine r_iload 104 dX1_roadTo_102 rfl lo5 ?_
                  first | refine r_icmp_neN 111 107 dX1_roadTo_104 rfl (by decide) (by omega) (by omega) (fun hc104 => ?_) (fun hc104 => ?_) | refine r_icmp_ne 111 107 dX1_roadTo_104 rfl (by decide) (fun hc104 => ?_) (fun hc104 => ?_)
                  · refine r_iconst 112 dX1_roadTo_111 rfl ic_0 ?_
                    refine r_istore 114 dX1_roadTo_112 rfl so6 rfl ?_
                    refine r_iload 116 dX1_roadTo_114 rfl lo6 ?_
                    first | refine r_if_eqN 142 119 dX1_roadTo_116 rfl (by decide) (by omega) (fun hc116 => ?_) (fun hc116 => ?_) | refine r_if_eq 142 119 dX1_roadTo_116 rfl (by decide) (fun hc116 => ?_) (fun hc116 => ?_)
                    · refine r_iinc 145 dX1_roadTo_142 rfl lo3 inc1 so3 rfl ?_
                      refine r_goto 5 dX1_roadTo_145 (by decide) ?_
                      rw [hst, if_neg (fun z => by rw [show mayB S.2.1 herd T x q = false from (may_1 h1).trans (decide_eq_false (fun z => hc104 (by rw [z.2.2]; rfl)))] at z; exact absurd z.1 (by decide))]
                      exact ih (i + 1) _ _ _ _ (by omega) hb
                    · exact absurd rfl hc116
                  · refine r_iconst 108 dX1_roadTo_107 rfl ic_1 ?_
                    refine r_goto 112 dX1_roadTo_108 (by decide) ?_
                    refine r_istore 114 dX1_roadTo_112 rfl so6 rfl ?_
                    refine r_iload 116 dX1_roadTo_114 rfl lo6 ?_
                    first | refine r_if_eqN 142 119 dX1_roadTo_116 rfl (by decide) (by omega) (fun hc116 => ?_) (fun hc116 => ?_) | refine r_if_eq 142 119 dX1_roadTo_116 rfl (by decide) (fun hc116 => ?_) (fun hc116 => ?_)
                    · exact absurd hc116 (by decide)
                    · refine r_iload_n 120 dX1_roadTo_119 rfl rfl lo2 ?_
                      refine r_bipush 122 dX1_roadTo_120 rfl bi_m9 ?_
                      refine r_icmp_eq 140 125 dX1_roadTo_122 rfl (by decide) (fun hc122 => ?_) (fun hc122 => ?_)
                      · exact absurd hc122 (nI_m9 (by omega))
                      · refine r_aload_n 126 dX1_roadTo_125 rfl rfl lo0 ?_
                        refine r_get 129 dX1_roadTo_126 rfl g_X1_58_1 hm.t lo24 ?_
                        refine r_iload_n 130 dX1_roadTo_129 rfl rfl lo3 ?_
                        refine r_ialdv 131 dX1_roadTo_130 rfl hm.a17 _ rfl hj.1 (by omega) (by decide) ?_
                        refine r_aload_n 132 dX1_roadTo_131 rfl rfl lo0 ?_
                        refine r_get 135 dX1_roadTo_132 rfl g_X1_58_1 hm.t lo24 ?_
                        refine r_iload_n 136 dX1_roadTo_135 rfl rfl lo2 ?_
                        refine r_ialdv 137 dX1_roadTo_136 rfl hm.a17 _ rfl hjk.1 (by omega) (by decide) ?_
                        first | refine r_icmp_geN 142 140 dX1_roadTo_137 rfl (by decide) (by omega) (by omega) (fun hc137 => ?_) (fun hc137 => ?_) | refine r_icmp_ge 142 140 dX1_roadTo_137 rfl (by decide) (fun hc137 => ?_) (fun hc137 => ?_)
                        · refine r_iinc 145 dX1_roadTo_142 rfl lo3 inc1 so3 rfl ?_
                          refine r_goto 5 dX1_roadTo_145 (by decide) ?_
                          have hmay : mayB S.2.1 herd T x q = true := (may_1 h1).trans (decide_eq_true ⟨h3, hc86, en_some hc104 (by omega)⟩)
                          first
                            | (rw [hst, if_pos ⟨hmay, by rw [btr_k hp]; exact decide_eq_true (by omega)⟩]; exact ih (i + 1) (some i) _ _ _ (by omega) (fun k hk => by cases hk; omega))
                            | (rw [hst, if_neg (fun z => by rw [btr_k hp] at z; have := of_decide_eq_true z.2; omega)]; exact ih (i + 1) (some k) _ _ _ (by omega) hb)
                        · refine r_iload_n 141 dX1_roadTo_140 rfl rfl lo3 ?_
                          refine r_istore_n 142 dX1_roadTo_141 rfl rfl so2 rfl ?_
                          refine r_iinc 145 dX1_roadTo_142 rfl lo3 inc1 so3 rfl ?_
                          refine r_goto 5 dX1_roadTo_145 (by decide) ?_
                          have hmay : mayB S.2.1 herd T x q = true := (may_1 h1).trans (decide_eq_true ⟨h3, hc86, en_some hc104 (by omega)⟩)
                          first
                            | (rw [hst, if_pos ⟨hmay, by rw [btr_k hp]; exact decide_eq_true (by omega)⟩]; exact ih (i + 1) (some i) _ _ _ (by omega) (fun k hk => by cases hk; omega))
                            | (rw [hst, if_neg (fun z => by rw [btr_k hp] at z; have := of_decide_eq_true z.2; omega)]; exact ih (i + 1) (some k) _ _ _ (by omega) hb)
      · skip
        refine r_iload_n 6 dX1_roadTo_5 rfl rfl lo3 ?_
        refine r_aload_n 7 dX1_roadTo_6 rfl rfl lo0 ?_
        refine r_getv 10 dX1_roadTo_7 rfl g_X1_123_1 hm.t lo16 hS.rd.1 ?_
        first | refine r_icmp_geN 148 13 dX1_roadTo_10 rfl (by decide) (by omega) (by omega) (fun hc10 => ?_) (fun hc10 => ?_) | refine r_icmp_ge 148 13 dX1_roadTo_10 rfl (by decide) (fun hc10 => ?_) (fun hc10 => ?_)
        · exact absurd hc10 (by omega)
        · refine r_aload_n 14 dX1_roadTo_13 rfl rfl lo0 ?_
          refine r_get 17 dX1_roadTo_14 rfl g_X1_40_1 hm.t lo18 ?_
          refine r_iload_n 18 dX1_roadTo_17 rfl rfl lo3 ?_
          refine r_ialdv 19 dX1_roadTo_18 rfl hm.a11 _ rfl h11 (by omega) (by decide) ?_
          refine r_iload_n 20 dX1_roadTo_19 rfl rfl lo1 ?_
          first | refine r_icmp_neN 32 23 dX1_roadTo_20 rfl (by decide) (by omega) (by omega) (fun hc20 => ?_) (fun hc20 => ?_) | refine r_icmp_ne 32 23 dX1_roadTo_20 rfl (by decide) (fun hc20 => ?_) (fun hc20 => ?_)
          · exact absurd h1 hc20
          · refine r_aload_n 24 dX1_roadTo_23 rfl rfl lo0 ?_
            refine r_get 27 dX1_roadTo_24 rfl g_X1_43_1 hm.t lo19 ?_
            refine r_iload_n 28 dX1_roadTo_27 rfl rfl lo3 ?_
            refine r_ialdv 29 dX1_roadTo_28 rfl hm.a12 _ rfl h12 (by omega) (by decide) ?_
            refine r_goto 53 dX1_roadTo_29 (by decide) ?_
            refine r_istore 55 dX1_roadTo_53 rfl so4 rfl ?_
            refine r_aload_n 56 dX1_roadTo_55 rfl rfl lo0 ?_
            refine r_get 59 dX1_roadTo_56 rfl g_X1_61_1 hm.t lo25 ?_
            refine r_iload_n 60 dX1_roadTo_59 rfl rfl lo1 ?_
            refine r_ialdv 61 dX1_roadTo_60 rfl hm.a18 _ rfl (hT x hx).1 (by omega) (by decide) ?_
            refine r_aload_n 62 dX1_roadTo_61 rfl rfl lo0 ?_
            refine r_get 65 dX1_roadTo_62 rfl g_X1_58_1 hm.t lo24 ?_
            refine r_iload_n 66 dX1_roadTo_65 rfl rfl lo3 ?_
            refine r_ialdv 67 dX1_roadTo_66 rfl hm.a17 _ rfl hj.1 (by omega) (by decide) ?_
            first | refine r_isubN 68 dX1_roadTo_67 rfl (by omega) ?_ | refine r_isub 68 dX1_roadTo_67 rfl ?_
            refine r_istore 70 dX1_roadTo_68 rfl so5 rfl ?_
            refine r_iload 72 dX1_roadTo_70 rfl lo4 ?_
            refine r_bipush 74 dX1_roadTo_72 rfl bi_m9 ?_
            refine r_icmp_eq 111 77 dX1_roadTo_74 rfl (by decide) (fun hc74 => ?_) (fun hc74 => ?_)
            · exact absurd hc74 (nI_m9 (by omega))
            · refine r_aload_n 78 dX1_roadTo_77 rfl rfl lo0 ?_
              refine r_get 81 dX1_roadTo_78 rfl g_X1_61_1 hm.t lo25 ?_
              refine r_iload 83 dX1_roadTo_81 rfl lo4 ?_
              refine r_ialdv 84 dX1_roadTo_83 rfl hm.a18 _ rfl (hT q.2.2.1 hy).1 (by omega) (by decide) ?_
              refine r_iload 86 dX1_roadTo_84 rfl lo5 ?_
              refine r_icmp_gt 111 89 dX1_roadTo_86 rfl (by decide) (fun hc86 => ?_) (fun hc86 => ?_)
              · refine r_iconst 112 dX1_roadTo_111 rfl ic_0 ?_
                refine r_istore 114 dX1_roadTo_112 rfl so6 rfl ?_
                refine r_iload 116 dX1_roadTo_114 rfl lo6 ?_
                first | refine r_if_eqN 142 119 dX1_roadTo_116 rfl (by decide) (by omega) (fun hc116 => ?_) (fun hc116 => ?_) | refine r_if_eq 142 119 dX1_roadTo_116 rfl (by decide) (fun hc116 => ?_) (fun hc116 => ?_)
                · refine r_iinc 145 dX1_roadTo_142 rfl lo3 inc1 so3 rfl ?_
                  refine r_goto 5 dX1_roadTo_145 (by decide) ?_
                  rw [hst, if_neg (fun z => by rw [show mayB S.2.1 herd T x q = false from (may_1 h1).trans (decide_eq_false (fun z => h3 z.1))] at z; exact absurd z.1 (by decide))]
                  exact ih (i + 1) _ _ _ _ (by omega) hb
                · exact absurd rfl hc116
              · exact absurd (i_lt.mpr (by rw [pk_sub_toInt (by omega) (by omega), nI_toInt (by omega)]; omega)) hc86
    by_cases h2 : q.2.2.1 = x
    · have hy := o2
      have hty := (hT q.2.1 hy).2
      by_cases h3 : tkO herd q ≤ T x
      · have h16 := hj.2 (T x - tkO herd q) (by omega)
        have hen := en_le (ms := S.2.1) (q := q) (tk := tkO herd q) (h := T x - tkO herd q) (by omega)
        rcases b with _ | k
        · skip
          refine r_iload_n 6 dX1_roadTo_5 rfl rfl lo3 ?_
          refine r_aload_n 7 dX1_roadTo_6 rfl rfl lo0 ?_
          refine r_getv 10 dX1_roadTo_7 rfl g_X1_123_1 hm.t lo16 hS.rd.1 ?_
          first | refine r_icmp_geN 148 13 dX1_roadTo_10 rfl (by decide) (by omega) (by omega) (fun hc10 => ?_) (fun hc10 => ?_) | refine r_icmp_ge 148 13 dX1_roadTo_10 rfl (by decide) (fun hc10 => ?_) (fun hc10 => ?_)
          · exact absurd hc10 (by omega)
          · refine r_aload_n 14 dX1_roadTo_13 rfl rfl lo0 ?_
            refine r_get 17 dX1_roadTo_14 rfl g_X1_40_1 hm.t lo18 ?_
            refine r_iload_n 18 dX1_roadTo_17 rfl rfl lo3 ?_
            refine r_ialdv 19 dX1_roadTo_18 rfl hm.a11 _ rfl h11 (by omega) (by decide) ?_
            refine r_iload_n 20 dX1_roadTo_19 rfl rfl lo1 ?_
            first | refine r_icmp_neN 32 23 dX1_roadTo_20 rfl (by decide) (by omega) (by omega) (fun hc20 => ?_) (fun hc20 => ?_) | refine r_icmp_ne 32 23 dX1_roadTo_20 rfl (by decide) (fun hc20 => ?_) (fun hc20 => ?_)
            · refine r_aload_n 33 dX1_roadTo_32 rfl rfl lo0 ?_
              refine r_get 36 dX1_roadTo_33 rfl g_X1_43_1 hm.t lo19 ?_
              refine r_iload_n 37 dX1_roadTo_36 rfl rfl lo3 ?_
              refine r_ialdv 38 dX1_roadTo_37 rfl hm.a12 _ rfl h12 (by omega) (by decide) ?_
              refine r_iload_n 39 dX1_roadTo_38 rfl rfl lo1 ?_
              first | refine r_icmp_neN 51 42 dX1_roadTo_39 rfl (by decide) (by omega) (by omega) (fun hc39 => ?_) (fun hc39 => ?_) | refine r_icmp_ne 51 42 dX1_roadTo_39 rfl (by decide) (fun hc39 => ?_) (fun hc39 => ?_)
              · exact absurd h2 hc39
              · refine r_aload_n 43 dX1_roadTo_42 rfl rfl lo0 ?_
                refine r_get 46 dX1_roadTo_43 rfl g_X1_40_1 hm.t lo18 ?_
                refine r_iload_n 47 dX1_roadTo_46 rfl rfl lo3 ?_
                refine r_ialdv 48 dX1_roadTo_47 rfl hm.a11 _ rfl h11 (by omega) (by decide) ?_
                refine r_goto 53 dX1_roadTo_48 (by decide) ?_
                refine r_istore 55 dX1_roadTo_53 rfl so4 rfl ?_
                refine r_aload_n 56 dX1_roadTo_55 rfl rfl lo0 ?_
                refine r_get 59 dX1_roadTo_56 rfl g_X1_61_1 hm.t lo25 ?_
                refine r_iload_n 60 dX1_roadTo_59 rfl rfl lo1 ?_
                refine r_ialdv 61 dX1_roadTo_60 rfl hm.a18 _ rfl (hT x hx).1 (by omega) (by decide) ?_
                refine r_aload_n 62 dX1_roadTo_61 rfl rfl lo0 ?_
                refine r_get 65 dX1_roadTo_62 rfl g_X1_58_1 hm.t lo24 ?_
                refine r_iload_n 66 dX1_roadTo_65 rfl rfl lo3 ?_
                refine r_ialdv 67 dX1_roadTo_66 rfl hm.a17 _ rfl hj.1 (by omega) (by decide) ?_
                first | refine r_isubN 68 dX1_roadTo_67 rfl (by omega) ?_ | refine r_isub 68 dX1_roadTo_67 rfl ?_
                refine r_istore 70 dX1_roadTo_68 rfl so5 rfl ?_
                refine r_iload 72 dX1_roadTo_70 rfl lo4 ?_
                refine r_bipush 74 dX1_roadTo_72 rfl bi_m9 ?_
                refine r_icmp_eq 111 77 dX1_roadTo_74 rfl (by decide) (fun hc74 => ?_) (fun hc74 => ?_)
                · exact absurd hc74 (nI_m9 (by omega))
                · refine r_aload_n 78 dX1_roadTo_77 rfl rfl lo0 ?_
                  refine r_get 81 dX1_roadTo_78 rfl g_X1_61_1 hm.t lo25 ?_
                  refine r_iload 83 dX1_roadTo_81 rfl lo4 ?_
                  refine r_ialdv 84 dX1_roadTo_83 rfl hm.a18 _ rfl (hT q.2.1 hy).1 (by omega) (by decide) ?_
                  refine r_iload 86 dX1_roadTo_84 rfl lo5 ?_
                  first | refine r_icmp_gtN 111 89 dX1_roadTo_86 rfl (by decide) (by omega) (by omega) (fun hc86 => ?_) (fun hc86 => ?_) | refine r_icmp_gt 111 89 dX1_roadTo_86 rfl (by decide) (fun hc86 => ?_) (fun hc86 => ?_)
                  · refine r_iconst 112 dX1_roadTo_111 rfl ic_0 ?_
                    refine r_istore 114 dX1_roadTo_112 rfl so6 rfl ?_
                    refine r_iload 116 dX1_roadTo_114 rfl lo6 ?_
                    first | refine r_if_eqN 142 119 dX1_roadTo_116 rfl (by decide) (by omega) (fun hc116 => ?_) (fun hc116 => ?_) | refine r_if_eq 142 119 dX1_roadTo_116 rfl (by decide) (fun hc116 => ?_) (fun hc116 => ?_)
                    · refine r_iinc 145 dX1_roadTo_142 rfl lo3 inc1 so3 rfl ?_
                      refine r_goto 5 dX1_roadTo_145 (by decide) ?_
                      rw [hst, if_neg (fun z => by rw [show mayB S.2.1 herd T x q = false from (may_2 h1 h2).trans (decide_eq_false (fun z => absurd z.2.1 (by omega)))] at z; exact absurd z.1 (by decide))]
                      exact ih (i + 1) _ _ _ _ (by omega) hb
                    · exact absurd rfl hc116
                  · refine r_aload_n 90 dX1_roadTo_89 rfl rfl lo0 ?_
                    refine r_get 93 dX1_roadTo_90 rfl g_X1_55_1 hm.t lo23 ?_
                    refine r_sipush 96 dX1_roadTo_93 rfl si_2001 ?_
                    refine r_iload_n 97 dX1_roadTo_96 rfl rfl lo3 ?_
                    first | refine r_imulN 98 dX1_roadTo_97 rfl ?_ | refine r_imul 98 dX1_roadTo_97 rfl ?_
                    refine r_iload 100 dX1_roadTo_98 rfl lo5 ?_
                    first | refine r_iaddN 101 dX1_roadTo_100 rfl ?_ | refine r_iadd 101 dX1_roadTo_100 rfl ?_
                    refine r_ialdv 102 dX1_roadTo_101 rfl hm.a16 _ rfl h16 (by omega) (by decide) ?_
                    refine r_iload 104 dX1_roadTo_102 rfl lo5 ?_
                    first | refine r_icmp_neN 111 107 dX1_roadTo_104 rfl (by decide) (by omega) (by omega) (fun hc104 => ?_) (fun hc104 => ?_) | refine r_icmp_ne 111 107 dX1_roadTo_104 rfl (by decide) (fun hc104 => ?_) (fun hc104 => ?_)
                    · refine r_iconst 112 dX1_roadTo_111 rfl ic_0 ?_
                      refine r_istore 114 dX1_roadTo_112 rfl so6 rfl ?_
                      refine r_iload 116 dX1_roadTo_114 rfl lo6 ?_
                      first | refine r_if_eqN 142 119 dX1_roadTo_116 rfl (by decide) (by omega) (fun hc116 => ?_) (fun hc116 => ?_) | refine r_if_eq 142 119 dX1_roadTo_116 rfl (by decide) (fun hc116 => ?_) (fun hc116 => ?_)
                      · refine r_iinc 145 dX1_roadTo_142 rfl lo3 inc1 so3 rfl ?_
                        refine r_goto 5 dX1_roadTo_145 (by decide) ?_
                        rw [hst, if_neg (fun z => by rw [show mayB S.2.1 herd T x q = false from (may_2 h1 h2).trans (decide_eq_false (fun z => hc104 (by rw [z.2.2]; rfl)))] at z; exact absurd z.1 (by decide))]
                        exact ih (i + 1) _ _ _ _ (by omega) hb
                      · exact absurd rfl hc116
                    · refine r_iconst 108 dX1_roadTo_107 rfl ic_1 ?_
                      refine r_goto 112 dX1_roadTo_108 (by decide) ?_
                      refine r_istore 114 dX1_roadTo_112 rfl so6 rfl ?_
                      refine r_iload 116 dX1_roadTo_114 rfl lo6 ?_
                      first | refine r_if_eqN 142 119 dX1_roadTo_116 rfl (by decide) (by omega) (fun hc116 => ?_) (fun hc116 => ?_) | refine r_if_eq 142 119 dX1_roadTo_116 rfl (by decide) (fun hc116 => ?_) (fun hc116 => ?_)
                      · exact absurd hc116 (by decide)
                      · refine r_iload_n 120 dX1_roadTo_119 rfl rfl lo2 ?_
                        refine r_bipush 122 dX1_roadTo_120 rfl bi_m9 ?_
                        refine r_icmp_eq 140 125 dX1_roadTo_122 rfl (by decide) (fun hc122 => ?_) (fun hc122 => ?_)
                        · refine r_iload_n 141 dX1_roadTo_140 rfl rfl lo3 ?_
                          refine r_istore_n 142 dX1_roadTo_141 rfl rfl so2 rfl ?_
                          refine r_iinc 145 dX1_roadTo_142 rfl lo3 inc1 so3 rfl ?_
                          refine r_goto 5 dX1_roadTo_145 (by decide) ?_
                          have hmay : mayB S.2.1 herd T x q = true := (may_2 h1 h2).trans (decide_eq_true ⟨h3, hc86, en_some hc104 (by omega)⟩)
                          rw [hst, if_pos ⟨hmay, btr_n⟩]
                          exact ih (i + 1) (some i) _ _ _ (by omega) (fun k hk => by cases hk; omega)
                        · exact absurd rfl hc122
            · exact absurd hc20 h1
        · have hk := hb k rfl
          obtain ⟨p, hp⟩ := get_of_lt hk
          have hjk := hJ k p hp
          have htp := tkO_le (herd := herd) (hS.rd.2.2 k p hp).2.2.2.2.2.2
          refine r_iload_n 6 dX1_roadTo_5 rfl rfl lo3 ?_
          refine r_aload_n 7 dX1_roadTo_6 rfl rfl lo0 ?_
          refine r_getv 10 dX1_roadTo_7 rfl g_X1_123_1 hm.t lo16 hS.rd.1 ?_
          first | refine r_icmp_geN 148 13 dX1_roadTo_10 rfl (by decide) (by omega) (by omega) (fun hc10 => ?_) (fun hc10 => ?_) | refine r_icmp_ge 148 13 dX1_roadTo_10 rfl (by decide) (fun hc10 => ?_) (fun hc10 => ?_)
          · exact absurd hc10 (by omega)
          · refine r_aload_n 14 dX1_roadTo_13 rfl rfl lo0 ?_
            refine r_get 17 dX1_roadTo_14 rfl g_X1_40_1 hm.t lo18 ?_
            refine r_iload_n 18 dX1_roadTo_17 rfl rfl lo3 ?_
            refine r_ialdv 19 dX1_roadTo_18 rfl hm.a11 _ rfl h11 (by omega) (by decide) ?_
            refine r_iload_n 20 dX1_roadTo_19 rfl rfl lo1 ?_
            first | refine r_icmp_neN 32 23 dX1_roadTo_20 rfl (by decide) (by omega) (by omega) (fun hc20 => ?_) (fun hc20 => ?_) | refine r_icmp_ne 32 23 dX1_roadTo_20 rfl (by decide) (fun hc20 => ?_) (fun hc20 => ?_)
            · refine r_aload_n 33 dX1_roadTo_32 rfl rfl lo0 ?_
              refine r_get 36 dX1_roadTo_33 rfl g_X1_43_1 hm.t lo19 ?_
              refine r_iload_n 37 dX1_roadTo_36 rfl rfl lo3 ?_
              refine r_ialdv 38 dX1_roadTo_37 rfl hm.a12 _ rfl h12 (by omega) (by decide) ?_
              refine r_iload_n 39 dX1_roadTo_38 rfl rfl lo1 ?_
              first | refine r_icmp_neN 51 42 dX1_roadTo_39 rfl (by decide) (by omega) (by omega) (fun hc39 => ?_) (fun hc39 => ?_) | refine r_icmp_ne 51 42 dX1_roadTo_39 rfl (by decide) (fun hc39 => ?_) (fun hc39 => ?_)
              · exact absurd h2 hc39
              · refine r_aload_n 43 dX1_roadTo_42 rfl rfl lo0 ?_
                refine r_get 46 dX1_roadTo_43 rfl g_X1_40_1 hm.t lo18 ?_
                refine r_iload_n 47 dX1_roadTo_46 rfl rfl lo3 ?_
                refine r_ialdv 48 dX1_roadTo_47 rfl hm.a11 _ rfl h11 (by omega) (by decide) ?_
                refine r_goto 53 dX1_roadTo_48 (by decide) ?_
                refine r_istore 55 dX1_roadTo_53 rfl so4 rfl ?_
                refine r_aload_n 56 dX1_roadTo_55 rfl rfl lo0 ?_
                refine r_get 59 dX1_roadTo_56 rfl g_X1_61_1 hm.t lo25 ?_
                refine r_iload_n 60 dX1_roadTo_59 rfl rfl lo1 ?_
                refine r_ialdv 61 dX1_roadTo_60 rfl hm.a18 _ rfl (hT x hx).1 (by omega) (by decide) ?_
                refine r_aload_n 62 dX1_roadTo_61 rfl rfl lo0 ?_
                refine r_get 65 dX1_roadTo_62 rfl g_X1_58_1 hm.t lo24 ?_
                refine r_iload_n 66 dX1_roadTo_65 rfl rfl lo3 ?_
                refine r_ialdv 67 dX1_roadTo_66 rfl hm.a17 _ rfl hj.1 (by omega) (by decide) ?_
                first | refine r_isubN 68 dX1_roadTo_67 rfl (by omega) ?_ | refine r_isub 68 dX1_roadTo_67 rfl ?_
                refine r_istore 70 dX1_roadTo_68 rfl so5 rfl ?_
                refine r_iload 72 dX1_roadTo_70 rfl lo4 ?_
                refine r_bipush 74 dX1_roadTo_72 rfl bi_m9 ?_
                refine r_icmp_eq 111 77 dX1_roadTo_74 rfl (by decide) (fun hc74 => ?_) (fun hc74 => ?_)
                · exact absurd hc74 (nI_m9 (by omega))
                · refine r_aload_n 78 dX1_roadTo_77 rfl rfl lo0 ?_
                  refine r_get 81 dX1_roadTo_78 rfl g_X1_61_1 hm.t lo25 ?_
                  refine r_iload 83 dX1_roadTo_81 rfl lo4 ?_
                  refine r_ialdv 84 dX1_roadTo_83 rfl hm.a18 _ rfl (hT q.2.1 hy).1 (by omega) (by decide) ?_
                  refine r_iload 86 dX1_roadTo_84 rfl lo5 ?_
                  first | refine r_icmp_gtN 111 89 dX1_roadTo_86 rfl (by decide) (by omega) (by omega) (fun hc86 => ?_) (fun hc86 => ?_) | refine r_icmp_gt 111 89 dX1_roadTo_86 rfl (by decide) (fun hc86 => ?_) (fun hc86 => ?_)
                  · refine r_iconst 112 dX1_roadTo_111 rfl ic_0 ?_
                    refine r_istore 114 dX1_roadTo_112 rfl so6 rfl ?_
                    refine r_iload 116 dX1_roadTo_114 rfl lo6 ?_
                    first | refine r_if_eqN 142 119 dX1_roadTo_116 rfl (by decide) (by omega) (fun hc116 => ?_) (fun hc116 => ?_) | refine r_if_eq 142 119 dX1_roadTo_116 rfl (by decide) (fun hc116 => ?_) (fun hc116 => ?_)
                    · refine r_iinc 145 dX1_roadTo_142 rfl lo3 inc1 so3 rfl ?_
                      refine r_goto 5 dX1_roadTo_145 (by decide) ?_
                      rw [hst, if_neg (fun z => by rw [show mayB S.2.1 herd T x q = false from (may_2 h1 h2).trans (decide_eq_false (fun z => absurd z.2.1 (by omega)))] at z; exact absurd z.1 (by decide))]
                      exact ih (i + 1) _ _ _ _ (by omega) hb
                    · exact absurd rfl hc116
                  · refine r_aload_n 90 dX1_roadTo_89 rfl rfl lo0 ?_
                    refine r_get 93 dX1_roadTo_90 rfl g_X1_55_1 hm.t lo23 ?_
                    refine r_sipush 96 dX1_roadTo_93 rfl si_2001 ?_
                    refine r_iload_n 97 dX1_roadTo_96 rfl rfl lo3 ?_
                    first | refine r_imulN 98 dX1_roadTo_97 rfl ?_ | refine r_imul 98 dX1_roadTo_97 rfl ?_
                    refine r_iload 100 dX1_roadTo_98 rfl lo5 ?_
                    first | refine r_iaddN 101 dX1_roadTo_100 rfl ?_ | refine r_iadd 101 dX1_roadTo_100 rfl ?_
                    refine r_ialdv 102 dX1_roadTo_101 rfl hm.a16 _ rfl h16 (by omega) (by decide) ?_
                    refine r_iload 104 dX1_roadTo_102 rfl lo5 ?_
                    first | refine r_icmp_neN 111 107 dX1_roadTo_104 rfl (by decide) (by omega) (by omega) (fun hc104 => ?_) (fun hc104 => ?_) | refine r_icmp_ne 111 107 dX1_roadTo_104 rfl (by decide) (fun hc104 => ?_) (fun hc104 => ?_)
                    · refine r_iconst 112 dX1_roadTo_111 rfl ic_0 ?_
                      refine r_istore 114 dX1_roadTo_112 rfl so6 rfl ?_
                      refine r_iload 116 dX1_roadTo_114 rfl lo6 ?_
                      first | refine r_if_eqN 142 119 dX1_roadTo_116 rfl (by decide) (by omega) (fun hc116 => ?_) (fun hc116 => ?_) | refine r_if_eq 142 119 dX1_roadTo_116 rfl (by decide) (fun hc116 => ?_) (fun hc116 => ?_)
                      · refine r_iinc 145 dX1_roadTo_142 rfl lo3 inc1 so3 rfl ?_
                        refine r_goto 5 dX1_roadTo_145 (by decide) ?_
                        rw [hst, if_neg (fun z => by rw [show mayB S.2.1 herd T x q = false from (may_2 h1 h2).trans (decide_eq_false (fun z => hc104 (by rw [z.2.2]; rfl)))] at z; exact absurd z.1 (by decide))]
                        exact ih (i + 1) _ _ _ _ (by omega) hb
                      · exact absurd rfl hc116
                    · refine r_iconst 108 dX1_roadTo_107 rfl ic_1 ?_
                      refine r_goto 112 dX1_roadTo_108 (by decide) ?_
                      refine r_istore 114 dX1_roadTo_112 rfl so6 rfl ?_
                      refine r_iload 116 dX1_roadTo_114 rfl lo6 ?_
                      first | refine r_if_eqN 142 119 dX1_roadTo_116 rfl (by decide) (by omega) (fun hc116 => ?_) (fun hc116 => ?_) | refine r_if_eq 142 119 dX1_roadTo_116 rfl (by decide) (fun hc116 => ?_) (fun hc116 => ?_)
                      · exact absurd hc116 (by decide)
                      · refine r_iload_n 120 dX1_roadTo_119 rfl rfl lo2 ?_
                        refine r_bipush 122 dX1_roadTo_120 rfl bi_m9 ?_
                        refine r_icmp_eq 140 125 dX1_roadTo_122 rfl (by decide) (fun hc122 => ?_) (fun hc122 => ?_)
                        · exact absurd hc122 (nI_m9 (by omega))
                        · refine r_aload_n 126 dX1_roadTo_125 rfl rfl lo0 ?_
                          refine r_get 129 dX1_roadTo_126 rfl g_X1_58_1 hm.t lo24 ?_
                          refine r_iload_n 130 dX1_roadTo_129 rfl rfl lo3 ?_
                          refine r_ialdv 131 dX1_roadTo_130 rfl hm.a17 _ rfl hj.1 (by omega) (by decide) ?_
                          refine r_aload_n 132 dX1_roadTo_131 rfl rfl lo0 ?_
                          refine r_get 135 dX1_roadTo_132 rfl g_X1_58_1 hm.t lo24 ?_
                          refine r_iload_n 136 dX1_roadTo_135 rfl rfl lo2 ?_
                          refine r_ialdv 137 dX1_roadTo_136 rfl hm.a17 _ rfl hjk.1 (by omega) (by decide) ?_
                          first | refine r_icmp_geN 142 140 dX1_roadTo_137 rfl (by decide) (by omega) (by omega) (fun hc137 => ?_) (fun hc137 => ?_) | refine r_icmp_ge 142 140 dX1_roadTo_137 rfl (by decide) (fun hc137 => ?_) (fun hc137 => ?_)
                          · refine r_iinc 145 dX1_roadTo_142 rfl lo3 inc1 so3 rfl ?_
                            refine r_goto 5 dX1_roadTo_145 (by decide) ?_
                            have hmay : mayB S.2.1 herd T x q = true := (may_2 h1 h2).trans (decide_eq_true ⟨h3, hc86, en_some hc104 (by omega)⟩)
                            first
                              | (rw [hst, if_pos ⟨hmay, by rw [btr_k hp]; exact decide_eq_true (by omega)⟩]; exact ih (i + 1) (some i) _ _ _ (by omega) (fun k hk => by cases hk; omega))
                              | (rw [hst, if_neg (fun z => by rw [btr_k hp] at z; have := of_decide_eq_true z.2; omega)]; exact ih (i + 1) (some k) _ _ _ (by omega) hb)
                          · refine r_iload_n 141 dX1_roadTo_140 rfl rfl lo3 ?_
                            refine r_istore_n 142 dX1_roadTo_141 rfl rfl so2 rfl ?_
                            refine r_iinc 145 dX1_roadTo_142 rfl lo3 inc1 so3 rfl ?_
                            refine r_goto 5 dX1_roadTo_145 (by decide) ?_
                            have hmay : mayB S.2.1 herd T x q = true := (may_2 h1 h2).trans (decide_eq_true ⟨h3, hc86, en_some hc104 (by omega)⟩)
                            first
                              | (rw [hst, if_pos ⟨hmay, by rw [btr_k hp]; exact decide_eq_true (by omega)⟩]; exact ih (i + 1) (some i) _ _ _ (by omega) (fun k hk => by cases hk; omega))
                              | (rw [hst, if_neg (fun z => by rw [btr_k hp] at z; have := of_decide_eq_true z.2; omega)]; exact ih (i + 1) (some k) _ _ _ (by omega) hb)
            · exact absurd hc20 h1
      · skip
        refine r_iload_n 6 dX1_roadTo_5 rfl rfl lo3 ?_
        refine r_aload_n 7 dX1_roadTo_6 rfl rfl lo0 ?_
        refine r_getv 10 dX1_roadTo_7 rfl g_X1_123_1 hm.t lo16 hS.rd.1 ?_
        first | refine r_icmp_geN 148 13 dX1_roadTo_10 rfl (by decide) (by omega) (by omega) (fun hc10 => ?_) (fun hc10 => ?_) | refine r_icmp_ge 148 13 dX1_roadTo_10 rfl (by decide) (fun hc10 => ?_) (fun hc10 => ?_)
        · exact absurd hc10 (by omega)
        · refine r_aload_n 14 dX1_roadTo_13 rfl rfl lo0 ?_
          refine r_get 17 dX1_roadTo_14 rfl g_X1_40_1 hm.t lo18 ?_
          refine r_iload_n 18 dX1_roadTo_17 rfl rfl lo3 ?_
          refine r_ialdv 19 dX1_roadTo_18 rfl hm.a11 _ rfl h11 (by omega) (by decide) ?_
          refine r_iload_n 20 dX1_roadTo_19 rfl rfl lo1 ?_
          first | refine r_icmp_neN 32 23 dX1_roadTo_20 rfl (by decide) (by omega) (by omega) (fun hc20 => ?_) (fun hc20 => ?_) | refine r_icmp_ne 32 23 dX1_roadTo_20 rfl (by decide) (fun hc20 => ?_) (fun hc20 => ?_)
          · refine r_aload_n 33 dX1_roadTo_32 rfl rfl lo0 ?_
            refine r_get 36 dX1_roadTo_33 rfl g_X1_43_1 hm.t lo19 ?_
            refine r_iload_n 37 dX1_roadTo_36 rfl rfl lo3 ?_
            refine r_ialdv 38 dX1_roadTo_37 rfl hm.a12 _ rfl h12 (by omega) (by decide) ?_
            refine r_iload_n 39 dX1_roadTo_38 rfl rfl lo1 ?_
            first | refine r_icmp_neN 51 42 dX1_roadTo_39 rfl (by decide) (by omega) (by omega) (fun hc39 => ?_) (fun hc39 => ?_) | refine r_icmp_ne 51 42 dX1_roadTo_39 rfl (by decide) (fun hc39 => ?_) (fun hc39 => ?_)
            · exact absurd h2 hc39
            · refine r_aload_n 43 dX1_roadTo_42 rfl rfl lo0 ?_
              refine r_get 46 dX1_roadTo_43 rfl g_X1_40_1 hm.t lo18 ?_
              refine r_iload_n 47 dX1_roadTo_46 rfl rfl lo3 ?_
              refine r_ialdv 48 dX1_roadTo_47 rfl hm.a11 _ rfl h11 (by omega) (by decide) ?_
              refine r_goto 53 dX1_roadTo_48 (by decide) ?_
              refine r_istore 55 dX1_roadTo_53 rfl so4 rfl ?_
              refine r_aload_n 56 dX1_roadTo_55 rfl rfl lo0 ?_
              refine r_get 59 dX1_roadTo_56 rfl g_X1_61_1 hm.t lo25 ?_
              refine r_iload_n 60 dX1_roadTo_59 rfl rfl lo1 ?_
              refine r_ialdv 61 dX1_roadTo_60 rfl hm.a18 _ rfl (hT x hx).1 (by omega) (by decide) ?_
              refine r_aload_n 62 dX1_roadTo_61 rfl rfl lo0 ?_
              refine r_get 65 dX1_roadTo_62 rfl g_X1_58_1 hm.t lo24 ?_
              refine r_iload_n 66 dX1_roadTo_65 rfl rfl lo3 ?_
              refine r_ialdv 67 dX1_roadTo_66 rfl hm.a17 _ rfl hj.1 (by omega) (by decide) ?_
              first | refine r_isubN 68 dX1_roadTo_67 rfl (by omega) ?_ | refine r_isub 68 dX1_roadTo_67 rfl ?_
              refine r_istore 70 dX1_roadTo_68 rfl so5 rfl ?_
              refine r_iload 72 dX1_roadTo_70 rfl lo4 ?_
              refine r_bipush 74 dX1_roadTo_72 rfl bi_m9 ?_
              refine r_icmp_eq 111 77 dX1_roadTo_74 rfl (by decide) (fun hc74 => ?_) (fun hc74 => ?_)
              · exact absurd hc74 (nI_m9 (by omega))
              · refine r_aload_n 78 dX1_roadTo_77 rfl rfl lo0 ?_
                refine r_get 81 dX1_roadTo_78 rfl g_X1_61_1 hm.t lo25 ?_
                refine r_iload 83 dX1_roadTo_81 rfl lo4 ?_
                refine r_ialdv 84 dX1_roadTo_83 rfl hm.a18 _ rfl (hT q.2.1 hy).1 (by omega) (by decide) ?_
                refine r_iload 86 dX1_roadTo_84 rfl lo5 ?_
                refine r_icmp_gt 111 89 dX1_roadTo_86 rfl (by decide) (fun hc86 => ?_) (fun hc86 => ?_)
                · refine r_iconst 112 dX1_roadTo_111 rfl ic_0 ?_
                  refine r_istore 114 dX1_roadTo_112 rfl so6 rfl ?_
                  refine r_iload 116 dX1_roadTo_114 rfl lo6 ?_
                  first | refine r_if_eqN 142 119 dX1_roadTo_116 rfl (by decide) (by omega) (fun hc116 => ?_) (fun hc116 => ?_) | refine r_if_eq 142 119 dX1_roadTo_116 rfl (by decide) (fun hc116 => ?_) (fun hc116 => ?_)
                  · refine r_iinc 145 dX1_roadTo_142 rfl lo3 inc1 so3 rfl ?_
                    refine r_goto 5 dX1_roadTo_145 (by decide) ?_
                    rw [hst, if_neg (fun z => by rw [show mayB S.2.1 herd T x q = false from (may_2 h1 h2).trans (decide_eq_false (fun z => h3 z.1))] at z; exact absurd z.1 (by decide))]
                    exact ih (i + 1) _ _ _ _ (by omega) hb
                  · exact absurd rfl hc116
                · exact absurd (i_lt.mpr (by rw [pk_sub_toInt (by omega) (by omega), nI_toInt (by omega)]; omega)) hc86
          · exact absurd hc20 h1
    refine r_iload_n 6 dX1_roadTo_5 rfl rfl lo3 ?_
    refine r_aload_n 7 dX1_roadTo_6 rfl rfl lo0 ?_
    refine r_getv 10 dX1_roadTo_7 rfl g_X1_123_1 hm.t lo16 hS.rd.1 ?_
    first | refine r_icmp_geN 148 13 dX1_roadTo_10 rfl (by decide) (by omega) (by omega) (fun hc10 => ?_) (fun hc10 => ?_) | refine r_icmp_ge 148 13 dX1_roadTo_10 rfl (by decide) (fun hc10 => ?_) (fun hc10 => ?_)
    · exact absurd hc10 (by omega)
    · refine r_aload_n 14 dX1_roadTo_13 rfl rfl lo0 ?_
      refine r_get 17 dX1_roadTo_14 rfl g_X1_40_1 hm.t lo18 ?_
      refine r_iload_n 18 dX1_roadTo_17 rfl rfl lo3 ?_
      refine r_ialdv 19 dX1_roadTo_18 rfl hm.a11 _ rfl h11 (by omega) (by decide) ?_
      refine r_iload_n 20 dX1_roadTo_19 rfl rfl lo1 ?_
      first | refine r_icmp_neN 32 23 dX1_roadTo_20 rfl (by decide) (by omega) (by omega) (fun hc20 => ?_) (fun hc20 => ?_) | refine r_icmp_ne 32 23 dX1_roadTo_20 rfl (by decide) (fun hc20 => ?_) (fun hc20 => ?_)
      · refine r_aload_n 33 dX1_roadTo_32 rfl rfl lo0 ?_
        refine r_get 36 dX1_roadTo_33 rfl g_X1_43_1 hm.t lo19 ?_
        refine r_iload_n 37 dX1_roadTo_36 rfl rfl lo3 ?_
        refine r_ialdv 38 dX1_roadTo_37 rfl hm.a12 _ rfl h12 (by omega) (by decide) ?_
        refine r_iload_n 39 dX1_roadTo_38 rfl rfl lo1 ?_
        first | refine r_icmp_neN 51 42 dX1_roadTo_39 rfl (by decide) (by omega) (by omega) (fun hc39 => ?_) (fun hc39 => ?_) | refine r_icmp_ne 51 42 dX1_roadTo_39 rfl (by decide) (fun hc39 => ?_) (fun hc39 => ?_)
        · refine r_bipush 53 dX1_roadTo_51 rfl bi_m9 ?_
          refine r_istore 55 dX1_roadTo_53 rfl so4 rfl ?_
          refine r_aload_n 56 dX1_roadTo_55 rfl rfl lo0 ?_
          refine r_get 59 dX1_roadTo_56 rfl g_X1_61_1 hm.t lo25 ?_
          refine r_iload_n 60 dX1_roadTo_59 rfl rfl lo1 ?_
          refine r_ialdv 61 dX1_roadTo_60 rfl hm.a18 _ rfl (hT x hx).1 (by omega) (by decide) ?_
          refine r_aload_n 62 dX1_roadTo_61 rfl rfl lo0 ?_
          refine r_get 65 dX1_roadTo_62 rfl g_X1_58_1 hm.t lo24 ?_
          refine r_iload_n 66 dX1_roadTo_65 rfl rfl lo3 ?_
          refine r_ialdv 67 dX1_roadTo_66 rfl hm.a17 _ rfl hj.1 (by omega) (by decide) ?_
          first | refine r_isubN 68 dX1_roadTo_67 rfl (by omega) ?_ | refine r_isub 68 dX1_roadTo_67 rfl ?_
          refine r_istore 70 dX1_roadTo_68 rfl so5 rfl ?_
          refine r_iload 72 dX1_roadTo_70 rfl lo4 ?_
          refine r_bipush 74 dX1_roadTo_72 rfl bi_m9 ?_
          refine r_icmp_eq 111 77 dX1_roadTo_74 rfl (by decide) (fun hc74 => ?_) (fun hc74 => ?_)
          · refine r_iconst 112 dX1_roadTo_111 rfl ic_0 ?_
            refine r_istore 114 dX1_roadTo_112 rfl so6 rfl ?_
            refine r_iload 116 dX1_roadTo_114 rfl lo6 ?_
            first | refine r_if_eqN 142 119 dX1_roadTo_116 rfl (by decide) (by omega) (fun hc116 => ?_) (fun hc116 => ?_) | refine r_if_eq 142 119 dX1_roadTo_116 rfl (by decide) (fun hc116 => ?_) (fun hc116 => ?_)
            · refine r_iinc 145 dX1_roadTo_142 rfl lo3 inc1 so3 rfl ?_
              refine r_goto 5 dX1_roadTo_145 (by decide) ?_
              rw [hst, if_neg (fun z => by rw [may_n h1 h2] at z; exact absurd z.1 (by decide))]
              exact ih (i + 1) _ _ _ _ (by omega) hb
            · exact absurd rfl hc116
          · exact absurd rfl hc74
        · exact absurd hc39 h2
      · exact absurd hc20 h1

set_option maxHeartbeats 4000000 in
theorem ev_X1_roadTo {w : WE} {A : Hp} {m : MT} {S : ST} {herd : Bool} {T : Nat → Nat} {x : Nat} (hm : MR w A m) (hS : MS m S) (hJ : JR m S.2.1 S.2.2.1 herd) (hT : ThR m S.1 T) (hx : x < S.1) (h2k : T x ≤ 2000) : EvI w mX1_roadTo 1 [.ref (mb w), .int (nI x)] A (oI (rdt S.2.1 herd S.2.2.1 T x S.2.2.1.length 0 none)) := by
  refine Ev.mk 5 [some (.ref (mb w)), some (.int (nI x)), none, none, none, none, none] rfl plX1 (Nat.le_of_ble_eq_true rfl) ?_
  refine r_bipush 2 dX1_roadTo_0 rfl bi_m9 ?_
  refine r_istore_n 3 dX1_roadTo_2 rfl rfl so2 rfl ?_
  refine r_iconst 4 dX1_roadTo_3 rfl ic_0 ?_
  refine r_istore_n 5 dX1_roadTo_4 rfl rfl so3 rfl ?_
  exact lp_X1_roadTo hm hS hJ hT hx h2k S.2.2.1.length 0 none _ _ _ (by omega) (fun k hk => by cases hk)

set_option maxHeartbeats 4000000 in
theorem lp_X1_findWay {w : WE} {A0 : Hp} {m : MT} {S : ST} {herd : Bool} {f h : Nat} {T : Nat → Nat} {L : List Nat} {z2 : Int32} (hS : MS m S) (hJ : JR m S.2.1 S.2.2.1 herd) (hT : ThR m S.1 T) (hL : Lst S.1 S.2.1 herd S.2.2.1 f h T) (hh : h ≤ 2000) (hf : f < S.1) : ∀ (j x : Nat) (acc : List Nat) (A : Hp) (g : Nat → Int32) (x4 : Option Value), sn S.1 T x < j → acc.length + j ≤ 7 → x < S.1 → T x ≤ 2000 → (∀ i r, acc[i]? = some r → g i = nI r) → L = acc ++ ways S.2.1 herd S.2.2.1 T f j x → MR w A (va_up m.1 26 (nI acc.length), va_up m.2 19 g) → Fm w A0 A → Rn w mX1_findWay (rmX 2 0 0) (ZX w (QM w A0 (fun v m' => v = none ∧ (fun m' => ∃ g : Nat → Int32, m' = (va_up m.1 26 (nI L.length), va_up m.2 19 g) ∧ ∀ i r, L[i]? = some r → g i = nI r) m')) 0 0) 0 0 A 7 [some (.ref (mb w)), some (.int (nI f)), some (.int z2), some (.int (nI x)), x4] [] := by
  have hl10 := hS.rd.2.1
  have hi6 := hS.ok.le
  have hok : ∀ q ∈ S.2.2.1, RdOk S.1 q := fun q hq => by
    obtain ⟨i, hi⟩ := List.getElem?_of_mem hq
    exact (hS.rd.2.2 i q hi).2.2.2.2.2.2
  intro j
  induction j with
  | zero =>
    intro x acc A g x4 h1
    omega
  | succ j ih =>
    intro x acc A g x4 h1 h2 hx h2k hg hL' hm hF
    have hS1 : MS (va_up m.1 26 (nI acc.length), va_up m.2 19 g) S := hS.eqm ⟨fun k hk => by simp [va_up, hk], fun k hk => by simp [va_up]; omega⟩
    have hJ1 : JR (va_up m.1 26 (nI acc.length), va_up m.2 19 g) S.2.1 S.2.2.1 herd := hJ.eq rfl rfl
    have hT1 : ThR (va_up m.1 26 (nI acc.length), va_up m.2 19 g) S.1 T := hT
    refine r_iload_n 8 dX1_findWay_7 rfl rfl lo3 ?_
    refine r_iload_n 9 dX1_findWay_8 rfl rfl lo1 ?_
    first | refine r_icmp_eqN 72 12 dX1_findWay_9 rfl (by decide) (by omega) (by omega) (fun hc9 => ?_) (fun hc9 => ?_) | refine r_icmp_eq 72 12 dX1_findWay_9 rfl (by decide) (fun hc9 => ?_) (fun hc9 => ?_)
    · exact r_vret dX1_findWay_72 rfl (Nat.le_refl _) (Nat.le_refl _) (qm hm hF ⟨rfl, g, by rw [hL', hc9, ways_f, List.append_nil], fun i r hi => hg i r (by rw [hL', hc9, ways_f, List.append_nil] at hi; exact hi)⟩)
    · obtain ⟨r, q, hr, hq, hmay⟩ := rdt_ok hok hh hL hc9 hx h2k
      obtain ⟨hjn, hmd⟩ := may_y hmay
      obtain ⟨h10, h11, h12, h13, h14, h15, hqo⟩ := hS.rd.2.2 r q hq
      have hr10 : r < S.2.2.1.length := (List.getElem?_eq_some_iff.mp hq).1
      have hyl := (Jn_lt hqo hjn).1
      have htk := tkO_le (herd := herd) hqo
      obtain ⟨d1, d2, -⟩ := hmd
      obtain ⟨o1, o2, o3, o4, o5⟩ := hqo
      have hoI : oI (rdt S.2.1 herd S.2.2.1 T x S.2.2.1.length 0 none) = nI r := by rw [hr]; rfl
      refine r_aload_n 13 dX1_findWay_12 rfl rfl lo0 ?_
      refine r_iload_n 14 dX1_findWay_13 rfl rfl lo3 ?_
      refine r_cV1 17 dX1_findWay_14 rfl sV_X1_188_1 hm.t (by rfl) (ev_X1_roadTo (T := T) (herd := herd) hm hS1 hJ1 hT1 hx h2k) ?_
      rw [hoI]
      refine r_istore 19 dX1_findWay_17 rfl so4 rfl ?_
      refine r_aload_n 20 dX1_findWay_19 rfl rfl lo0 ?_
      refine r_get 23 dX1_findWay_20 rfl g_X1_64_1 hm.t lo27 ?_
      refine r_aload_n 24 dX1_findWay_23 rfl rfl lo0 ?_
      refine r_getv 27 dX1_findWay_24 rfl g_X1_185_1 hm.t lo26 (show va_up m.1 26 (nI acc.length) 26 = nI acc.length from rfl) ?_
      refine r_iload 29 dX1_findWay_27 rfl lo4 ?_
      refine rm_iast (N := 8) 30 dX1_findWay_29 rfl hm hF (by decide) (by decide) _ rfl rfl (by omega) (by decide) (fun A hm hF => ?_)
      rw [bx_uu] at hm
      refine r_aload_n 31 dX1_findWay_30 rfl rfl lo0 ?_
      refine r_dup 32 dX1_findWay_31 rfl rfl ?_
      refine r_getv 35 dX1_findWay_32 rfl g_X1_185_1 hm.t lo26 (show va_up m.1 26 (nI acc.length) 26 = nI acc.length from rfl) ?_
      refine r_iconst 36 dX1_findWay_35 rfl ic_1 ?_
      first | refine r_iaddN 37 dX1_findWay_36 rfl ?_ | refine r_iadd 37 dX1_findWay_36 rfl ?_
      refine rm_put 40 dX1_findWay_37 rfl hm hF g_X1_185_1 fw_1_26 rfl (by decide) (fun A hm hF => ?_)
      replace hm : MR w A (va_up m.1 26 (nI (acc ++ [r]).length), va_up m.2 19 (upd g acc.length (nI r))) := by
        rw [List.length_append]
        rw [bx_uu] at hm
        exact hm
      refine r_aload_n 41 dX1_findWay_40 rfl rfl lo0 ?_
      refine r_get 44 dX1_findWay_41 rfl g_X1_40_1 hm.t lo18 ?_
      refine r_iload 46 dX1_findWay_44 rfl lo4 ?_
      refine r_ialdv 47 dX1_findWay_46 rfl hm.a11 _ rfl (show m.2 11 r = _ from h11) (by omega) (by decide) ?_
      refine r_iload_n 48 dX1_findWay_47 rfl rfl lo3 ?_
      first | refine r_icmp_neN 61 51 dX1_findWay_48 rfl (by decide) (by omega) (by omega) (fun hc48 => ?_) (fun hc48 => ?_) | refine r_icmp_ne 61 51 dX1_findWay_48 rfl (by decide) (fun hc48 => ?_) (fun hc48 => ?_)
      · have e : othr q x = q.2.1 := if_neg hc48
        refine r_aload_n 62 dX1_findWay_61 rfl rfl lo0 ?_
        refine r_get 65 dX1_findWay_62 rfl g_X1_40_1 hm.t lo18 ?_
        refine r_iload 67 dX1_findWay_65 rfl lo4 ?_
        refine r_ialdv 68 dX1_findWay_67 rfl hm.a11 _ rfl (show m.2 11 r = _ from h11) (by omega) (by decide) ?_
        refine r_istore_n 69 dX1_findWay_68 rfl rfl so3 rfl ?_
        refine r_goto 7 dX1_findWay_69 (by decide) ?_
        rw [← e]
        rw [ways_s hc9 hr hq] at hL'
        refine ih (othr q x) (acc ++ [r]) A _ _ (Nat.lt_of_lt_of_le (sn_dec (x := x) hyl (by omega)) (by omega)) (by simp; omega) hyl (by omega) (fun i p hp => ?_) (by rw [hL']; simp) hm hF
        by_cases e : i < acc.length
        · rw [List.getElem?_append_left e] at hp
          rw [upd_n (by omega)]
          exact hg i p hp
        · rw [List.getElem?_append_right (by omega)] at hp
          by_cases e2 : i = acc.length
          · subst e2
            simp at hp
            subst hp
            exact upd_s
          · rw [List.getElem?_eq_none (by simp; omega)] at hp
            cases hp
      · have e : othr q x = q.2.2.1 := if_pos hc48
        refine r_aload_n 52 dX1_findWay_51 rfl rfl lo0 ?_
        refine r_get 55 dX1_findWay_52 rfl g_X1_43_1 hm.t lo19 ?_
        refine r_iload 57 dX1_findWay_55 rfl lo4 ?_
        refine r_ialdv 58 dX1_findWay_57 rfl hm.a12 _ rfl (show m.2 12 r = _ from h12) (by omega) (by decide) ?_
        refine r_goto 68 dX1_findWay_58 (by decide) ?_
        refine r_istore_n 69 dX1_findWay_68 rfl rfl so3 rfl ?_
        refine r_goto 7 dX1_findWay_69 (by decide) ?_
        rw [← e]
        rw [ways_s hc9 hr hq] at hL'
        refine ih (othr q x) (acc ++ [r]) A _ _ (Nat.lt_of_lt_of_le (sn_dec (x := x) hyl (by omega)) (by omega)) (by simp; omega) hyl (by omega) (fun i p hp => ?_) (by rw [hL']; simp) hm hF
        by_cases e : i < acc.length
        · rw [List.getElem?_append_left e] at hp
          rw [upd_n (by omega)]
          exact hg i p hp
        · rw [List.getElem?_append_right (by omega)] at hp
          by_cases e2 : i = acc.length
          · subst e2
            simp at hp
            subst hp
            exact upd_s
          · rw [List.getElem?_eq_none (by simp; omega)] at hp
            cases hp

set_option maxHeartbeats 4000000 in
theorem ev_X1_findWay {w : WE} {A : Hp} {m : MT} {S : ST} {herd : Bool} {f h t : Nat} {T : Nat → Nat} {L : List Nat} (hm : MR w A m) (hS : MS m S) (hJ : JR m S.2.1 S.2.2.1 herd) (hT : ThR m S.1 T) (hL : Lst S.1 S.2.1 herd S.2.2.1 f h T) (hh : h ≤ 2000) (hf : f < S.1) (ht : t < S.1) (h2k : T t ≤ 2000) (hLL : L = ways S.2.1 herd S.2.2.1 T f 6 t) : EvMv w mX1_findWay 2 [.ref (mb w), .int (nI f), .int (nI t)] A (fun m' => ∃ g : Nat → Int32, m' = (va_up m.1 26 (nI L.length), va_up m.2 19 g) ∧ ∀ i r, L[i]? = some r → g i = nI r) := by
  refine Ev.mk 2 [some (.ref (mb w)), some (.int (nI f)), some (.int (nI t)), none, none] rfl plX1 (Nat.le_of_ble_eq_true rfl) ?_
  have hF : Fm w A A := Fm.rf
  have hi6 := hS.ok.le
  have hsn := sn_lt (T := T) ht
  refine r_aload_n 1 dX1_findWay_0 rfl rfl lo0 ?_
  refine r_iconst 2 dX1_findWay_1 rfl ic_0 ?_
  refine rm_put 5 dX1_findWay_2 rfl hm hF g_X1_185_1 fw_1_26 rfl (by decide) (fun A hm hF => ?_)
  refine r_iload_n 6 dX1_findWay_5 rfl rfl lo2 ?_
  refine r_istore_n 7 dX1_findWay_6 rfl rfl so3 rfl ?_
  exact lp_X1_findWay hS hJ hT hL hh hf 6 t [] A (m.2 19) _ (by omega) (by decide) ht h2k (fun i r hi => by cases hi) (by rw [List.nil_append]; exact hLL) (by rw [vu_self]; exact hm) hF

set_option maxHeartbeats 4000000 in
theorem sp_way_e {S : ST} {f t h : Nat} {herd : Bool} {q : Int32} {L : List Nat} (hf : isI S (nI f) = true) (ht : isI S (nI t) = true) (hq : ¬ q.toInt < -1) (hh : btw (nI h).toInt 0 1999 = true) (f1 : f < 2 ^ 31) (t1 : t < 2 ^ 31) (h1 : h < 2 ^ 31) (h2 : ¬ 2000 < bfS S herd f h t) (hL : L = ways S.2.1 herd S.2.2.1 (bfS S herd f h) f 6 t) : sp_way S (nI f) (nI t) (nI h) herd q = if q.toInt = -1 then nI L.length else if q.toInt < (L.length : Int) then nI (L.getD (L.length - 1 - q.toInt.toNat) 0) else -9 := by
  unfold sp_way
  rw [if_neg (fun z => z.elim (fun a => a hf) (fun z => z.elim (fun a => a ht) hq)), if_neg (fun z => z hh), nI_nat f1, nI_nat t1, nI_nat h1, if_neg h2, hL]
set_option maxHeartbeats 4000000 in
theorem ev_X1_way {w : WE} {A : Hp} {m : MT} {S : ST} {f t hour q : Int32} {herd : Bool} (hm : MR w A m) (hS : MS m S) : Ev w mX1_way 5 0 0 [.ref (mb w), .int f, .int t, .int hour, .int (bI herd), .int q] A (QM w A (fun v m' => v = some (.int (sp_way S f t hour herd q)) ∧ MS m' S)) := by
  refine Ev.mk 0 [some (.ref (mb w)), some (.int f), some (.int t), some (.int hour), some (.int (bI herd)), some (.int q)] rfl plX1 (Nat.le_of_ble_eq_true rfl) ?_
  have hF : Fm w A A := Fm.rf
  have hi6 := hS.ok.le
  have hz : (m.1 5).toInt = (S.1 : Int) := by rw [hS.il, nI_toInt (by omega)]
  have hok : ∀ q ∈ S.2.2.1, RdOk S.1 q := fun q hq => by
    obtain ⟨i, hi⟩ := List.getElem?_of_mem hq
    exact (hS.rd.2.2 i q hi).2.2.2.2.2.2
  refine r_aload_n 1 dX1_way_0 rfl rfl lo0 ?_
  refine r_iload_n 2 dX1_way_1 rfl rfl lo1 ?_
  refine r_cV1 5 dX1_way_2 rfl sV_X1_150_1 hm.t (by rfl) (ev_X1_isIsland hm) ?_
  refine r_if_eqB 22 8 dX1_way_5 rfl (by decide) (fun hc5 => ?_) (fun hc5 => ?_)
  · refine r_iconst 23 dX1_way_22 rfl ic_m1 ?_
    exact r_iret dX1_way_23 rfl (Nat.le_refl _) (Nat.le_refl _) (qm hm hF ⟨rq (by unfold sp_way; rw [if_pos (by unfold isI; rw [← hz]; first | exact Or.inl (by rw [hc5]; decide) | exact Or.inr (Or.inl (by rw [hc13]; decide)) | exact Or.inr (Or.inr (by have z : ¬ (-1 : Int32).toInt ≤ q.toInt := fun e => hc19 (i_le.mpr e); rw [im1] at z; omega)))]), hS⟩)
  · refine r_aload_n 9 dX1_way_8 rfl rfl lo0 ?_
    refine r_iload_n 10 dX1_way_9 rfl rfl lo2 ?_
    refine r_cV1 13 dX1_way_10 rfl sV_X1_150_1 hm.t (by rfl) (ev_X1_isIsland hm) ?_
    refine r_if_eqB 22 16 dX1_way_13 rfl (by decide) (fun hc13 => ?_) (fun hc13 => ?_)
    · refine r_iconst 23 dX1_way_22 rfl ic_m1 ?_
      exact r_iret dX1_way_23 rfl (Nat.le_refl _) (Nat.le_refl _) (qm hm hF ⟨rq (by unfold sp_way; rw [if_pos (by unfold isI; rw [← hz]; first | exact Or.inl (by rw [hc5]; decide) | exact Or.inr (Or.inl (by rw [hc13]; decide)) | exact Or.inr (Or.inr (by have z : ¬ (-1 : Int32).toInt ≤ q.toInt := fun e => hc19 (i_le.mpr e); rw [im1] at z; omega)))]), hS⟩)
    · refine r_iload 18 dX1_way_16 rfl lo5 ?_
      refine r_iconst 19 dX1_way_18 rfl ic_m1 ?_
      refine r_icmp_ge 24 22 dX1_way_19 rfl (by decide) (fun hc19 => ?_) (fun hc19 => ?_)
      · refine r_iload_n 25 dX1_way_24 rfl rfl lo3 ?_
        refine r_cS1 28 dX1_way_25 rfl sS_X1_137 (by rfl) ev_X1_isHour ?_
        refine r_if_neB 34 31 dX1_way_28 rfl (by decide) (fun hc28 => ?_) (fun hc28 => ?_)
        · replace hc5 : isI S f = true := by rw [hz] at hc5; exact hc5
          replace hc13 : isI S t = true := by rw [hz] at hc13; exact hc13
          obtain ⟨f, hf0, rfl⟩ := isI_nat hc5 hi6
          obtain ⟨t, ht0, rfl⟩ := isI_nat hc13 hi6
          obtain ⟨h, hh, rfl⟩ := hr_ok hc28
          have hq1 : ¬ q.toInt < -1 := by have z := i_le.mp hc19; rw [im1] at z; omega
          refine r_aload_n 35 dX1_way_34 rfl rfl lo0 ?_
          refine r_iload 37 dX1_way_35 rfl lo4 ?_
          refine rm_v1 40 dX1_way_37 rfl sV_X1_174_1 hm hF (by rfl) (ev_X1_layRoads (herd := herd) hm hS) (fun A m' hP hm hF => ?_)
          obtain ⟨he, h18, h1e, hJ⟩ := hP
          have hS1 := hS.eqm he
          refine r_aload_n 41 dX1_way_40 rfl rfl lo0 ?_
          refine r_iload_n 42 dX1_way_41 rfl rfl lo1 ?_
          refine r_iload_n 43 dX1_way_42 rfl rfl lo3 ?_
          refine rm_v2 46 dX1_way_43 rfl sV_X1_178_1 hm hF (by rfl) (ev_X1_findThere (S := S) (herd := herd) (f0 := f) (h0 := h) hm hS1 hJ (by omega) (by omega)) (fun A m' hP hm hF => ?_)
          obtain ⟨g, rfl, hg⟩ := hP
          have hb := bf_le (isl := S.1) (ms := S.2.1) (herd := herd) (rs := S.2.2.1) (f := f) (x := t) (show h ≤ 2000 by omega)
          refine r_aload_n 47 dX1_way_46 rfl rfl lo0 ?_
          refine r_get 50 dX1_way_47 rfl g_X1_61_1 hm.t lo25 ?_
          refine r_iload_n 51 dX1_way_50 rfl rfl lo2 ?_
          refine r_ialdv 52 dX1_way_51 rfl hm.a18 _ rfl (show g t = _ from hg t ht0) (by omega) (by decide) ?_
          refine r_sipush 55 dX1_way_52 rfl si_2000 ?_
          first | refine r_icmp_leN 61 58 dX1_way_55 rfl (by decide) (by omega) (by omega) (fun hc55 => ?_) (fun hc55 => ?_) | refine r_icmp_le 61 58 dX1_way_55 rfl (by decide) (fun hc55 => ?_) (fun hc55 => ?_)
          · obtain ⟨L, hLL⟩ : ∃ L, L = ways S.2.1 herd S.2.2.1 (bfS S herd f h) f 6 t := ⟨_, rfl⟩
            have hL6 := ways_len S.2.1 herd S.2.2.1 (bfS S herd f h) f 6 t
            rw [← hLL] at hL6
            have hS2 := hS1.eqm (Eqm.arr (k := 18) (f := g) (by decide))
            have hJ2 := hJ.eq (m' := (m'.1, va_up m'.2 18 g)) rfl rfl
            have hT2 : ThR (m'.1, va_up m'.2 18 g) S.1 (bfS S herd f h) := fun x hx => ⟨hg x hx, bf_le (by omega)⟩
            refine r_aload_n 62 dX1_way_61 rfl rfl lo0 ?_
            refine r_iload_n 63 dX1_way_62 rfl rfl lo1 ?_
            refine r_iload_n 64 dX1_way_63 rfl rfl lo2 ?_
            refine rm_v2 67 dX1_way_64 rfl sV_X1_191_1 hm hF (by rfl) (ev_X1_findWay (S := S) (herd := herd) (f := f) (h := h) (t := t) (T := bfS S herd f h) (L := L) hm hS2 hJ2 hT2 (bf_lst hok (by omega)) (by omega) hf0 ht0 hc55 hLL) (fun A m' hP hm hF => ?_)
            obtain ⟨g2, rfl, hg2⟩ := hP
            refine r_iload 69 dX1_way_67 rfl lo5 ?_
            refine r_iconst 70 dX1_way_69 rfl ic_m1 ?_
            refine r_icmp_ne 80 73 dX1_way_70 rfl (by decide) (fun hc70 => ?_) (fun hc70 => ?_)
            · obtain ⟨qn, q1, rfl, q3⟩ := i_nat (x := q) (by have z : ¬ q.toInt = -1 := fun e => hc70 (i_eq.mpr (by rw [im1]; exact e)); omega)
              refine r_iload 82 dX1_way_80 rfl lo5 ?_
              refine r_aload_n 83 dX1_way_82 rfl rfl lo0 ?_
              refine r_getv 86 dX1_way_83 rfl g_X1_185_1 hm.t lo26 (show _ = nI L.length from rfl) ?_
              first | refine r_icmp_geN 106 89 dX1_way_86 rfl (by decide) (by omega) (by omega) (fun hc86 => ?_) (fun hc86 => ?_) | refine r_icmp_ge 106 89 dX1_way_86 rfl (by decide) (fun hc86 => ?_) (fun hc86 => ?_)
              · refine r_bipush 108 dX1_way_106 rfl bi_m9 ?_
                exact r_iret dX1_way_108 rfl (Nat.le_refl _) (Nat.le_refl _) (qm hm hF ⟨rq (by rw [sp_way_e (L := L) hc5 hc13 hq1 hc28 (by omega) (by omega) (by omega) (Nat.not_lt.mpr hc55) hLL]; first | (rw [if_pos (by rw [hc70]; exact im1)]) | (rw [nI_toInt (n := qn) (by omega), if_neg (by omega), if_pos (by omega)]; rfl) | (rw [nI_toInt (n := qn) (by omega), if_neg (by omega), if_neg (by omega)])), hS2.eqm ⟨fun k hk => by simp [va_up, hk], fun k hk => by simp [va_up]; omega⟩⟩)
              · refine r_aload_n 90 dX1_way_89 rfl rfl lo0 ?_
                refine r_get 93 dX1_way_90 rfl g_X1_64_1 hm.t lo27 ?_
                refine r_aload_n 94 dX1_way_93 rfl rfl lo0 ?_
                refine r_getv 97 dX1_way_94 rfl g_X1_185_1 hm.t lo26 (show _ = nI L.length from rfl) ?_
                refine r_iconst 98 dX1_way_97 rfl ic_1 ?_
                first | refine r_isubN 99 dX1_way_98 rfl (by omega) ?_ | refine r_isub 99 dX1_way_98 rfl ?_
                refine r_iload 101 dX1_way_99 rfl lo5 ?_
                first | refine r_isubN 102 dX1_way_101 rfl (by omega) ?_ | refine r_isub 102 dX1_way_101 rfl ?_
                refine r_ialdv 103 dX1_way_102 rfl hm.a19 _ rfl (show g2 (L.length - 1 - qn) = nI (L.getD (L.length - 1 - qn) 0) from hg2 _ _ (by rw [List.getD_eq_getElem?_getD]; obtain ⟨r, hr⟩ := get_of_lt (l := L) (i := L.length - 1 - qn) (by omega); rw [hr]; rfl)) (by omega) (by decide) ?_
                refine r_goto 108 dX1_way_103 (by decide) ?_
                exact r_iret dX1_way_108 rfl (Nat.le_refl _) (Nat.le_refl _) (qm hm hF ⟨rq (by rw [sp_way_e (L := L) hc5 hc13 hq1 hc28 (by omega) (by omega) (by omega) (Nat.not_lt.mpr hc55) hLL]; first | (rw [if_pos (by rw [hc70]; exact im1)]) | (rw [nI_toInt (n := qn) (by omega), if_neg (by omega), if_pos (by omega)]; rfl) | (rw [nI_toInt (n := qn) (by omega), if_neg (by omega), if_neg (by omega)])), hS2.eqm ⟨fun k hk => by simp [va_up, hk], fun k hk => by simp [va_up]; omega⟩⟩)
            · refine r_aload_n 74 dX1_way_73 rfl rfl lo0 ?_
              refine r_getv 77 dX1_way_74 rfl g_X1_185_1 hm.t lo26 (show _ = nI L.length from rfl) ?_
              refine r_goto 108 dX1_way_77 (by decide) ?_
              exact r_iret dX1_way_108 rfl (Nat.le_refl _) (Nat.le_refl _) (qm hm hF ⟨rq (by rw [sp_way_e (L := L) hc5 hc13 hq1 hc28 (by omega) (by omega) (by omega) (Nat.not_lt.mpr hc55) hLL]; first | (rw [if_pos (by rw [hc70]; exact im1)]) | (rw [nI_toInt (n := qn) (by omega), if_neg (by omega), if_pos (by omega)]; rfl) | (rw [nI_toInt (n := qn) (by omega), if_neg (by omega), if_neg (by omega)])), hS2.eqm ⟨fun k hk => by simp [va_up, hk], fun k hk => by simp [va_up]; omega⟩⟩)
          · refine r_bipush 60 dX1_way_58 rfl bi_m9 ?_
            exact r_iret dX1_way_60 rfl (Nat.le_refl _) (Nat.le_refl _) (qm hm hF ⟨rq (by unfold sp_way; rw [if_neg (fun z => z.elim (fun a => a hc5) (fun z => z.elim (fun a => a hc13) hq1)), if_neg (fun z => z hc28), nI_nat (j := f) (by omega), nI_nat (j := t) (by omega), nI_nat (j := h) (by omega), if_pos (by omega)]), hS1.eqm (Eqm.arr (by decide))⟩)
        · refine r_bipush 33 dX1_way_31 rfl bi_m2 ?_
          exact r_iret dX1_way_33 rfl (Nat.le_refl _) (Nat.le_refl _) (qm hm hF ⟨rq (by unfold sp_way; rw [hz] at hc5 hc13; rw [if_neg (fun h => h.elim (fun a => a hc5) (fun h => h.elim (fun a => a hc13) (fun a => by have z := i_le.mp hc19; rw [im1] at z; omega))), if_pos (by rw [hc28]; decide)]), hS⟩)
      · refine r_iconst 23 dX1_way_22 rfl ic_m1 ?_
        exact r_iret dX1_way_23 rfl (Nat.le_refl _) (Nat.le_refl _) (qm hm hF ⟨rq (by unfold sp_way; rw [if_pos (by unfold isI; rw [← hz]; first | exact Or.inl (by rw [hc5]; decide) | exact Or.inr (Or.inl (by rw [hc13]; decide)) | exact Or.inr (Or.inr (by have z : ¬ (-1 : Int32).toInt ≤ q.toInt := fun e => hc19 (i_le.mpr e); rw [im1] at z; omega)))]), hS⟩)

