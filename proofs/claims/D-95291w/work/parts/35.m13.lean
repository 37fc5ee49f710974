/-! THE REFERENCE: saves -/
set_option maxRecDepth 100000
theorem upd_back {f : Nat → Int32} {j : Nat} {a : Int32} {v : Int32} (h : f j = v) : upd (upd f j a) j v = f := by
  funext i
  by_cases e : i = j
  · subst e
    rw [upd_s, h]
  · rw [upd_n e, upd_n e]
theorem Eqm.back {m1 m3 : MT} {g f3 : Nat → Int32} {j : Nat} {a v : Int32} (he : Eqm (m1.1, va_up (va_up m1.2 18 g) 15 (upd (m1.2 15) j a)) m3) (hv : m1.2 15 j = v) : Eqm m1 (m3.1, va_up (va_up m3.2 18 f3) 15 (upd (m3.2 15) j v)) := by
  refine ⟨fun k hk => he.1 k hk, fun k hk => ?_⟩
  by_cases e : k = 15
  · subst e
    show upd (m3.2 15) j v = m1.2 15
    rw [he.2 15 (by decide)]
    exact upd_back hv
  · have h1 : va_up (va_up m3.2 18 f3) 15 (upd (m3.2 15) j v) k = m3.2 k := by simp [va_up, e, show k ≠ 18 by omega]
    have h2 : va_up (va_up m1.2 18 g) 15 (upd (m1.2 15) j a) k = m1.2 k := by simp [va_up, e, show k ≠ 18 by omega]
    show va_up (va_up m3.2 18 f3) 15 (upd (m3.2 15) j v) k = m1.2 k
    rw [h1, ← h2]
    exact he.2 k hk
set_option maxHeartbeats 4000000 in
theorem ev_X1_saves {w : WE} {A : Hp} {m : MT} {S : ST} {x f t hour : Int32} (hm : MR w A m) (hS : MS m S) (h9 : ∀ q ∈ S.2.2.1, q.2.2.2.2.2 ≤ 9) : Ev w mX1_saves 5 0 0 [.ref (mb w), .int x, .int f, .int t, .int hour] A (QM w A (fun v m' => v = some (.int (sp_saves S x f t hour)) ∧ MS m' S)) := by
  refine Ev.mk 1 [some (.ref (mb w)), some (.int x), some (.int f), some (.int t), some (.int hour), none] rfl plX1 (Nat.le_of_ble_eq_true rfl) ?_
  have hF : Fm w A A := Fm.rf
  have hl10 := hS.rd.2.1
  have hz : (m.1 16).toInt = (S.2.2.1.length : Int) := by rw [hS.rd.1, nI_toInt (by omega)]
  have hi6 := hS.ok.le
  have hzi : (m.1 5).toInt = (S.1 : Int) := by rw [hS.il, nI_toInt (by omega)]
  refine r_aload_n 1 dX1_saves_0 rfl rfl lo0 ?_
  refine r_iload_n 2 dX1_saves_1 rfl rfl lo1 ?_
  refine r_cV1 5 dX1_saves_2 rfl sV_X1_153_1 hm.t (by rfl) (ev_X1_isRoad hm) ?_
  refine r_if_eqB 24 8 dX1_saves_5 rfl (by decide) (fun hc5 => ?_) (fun hc5 => ?_)
  · refine r_iconst 25 dX1_saves_24 rfl ic_m1 ?_
    exact r_iret dX1_saves_25 rfl (Nat.le_refl _) (Nat.le_refl _) (qm hm hF ⟨rq (by unfold sp_saves; first | rw [ix_no (by rw [hz] at hc5; exact btw_f.mp hc5)] | (obtain ⟨j, q, hj, rfl, hq, hix⟩ := ix_ok (l := S.2.2.1) (x := x) (by rw [hz] at hc5; have := btw_t.mp hc5; omega); rw [hix]; dsimp only; rw [if_pos (by unfold isI; rw [← hzi]; first | exact Or.inl (by rw [hc13]; decide) | exact Or.inr (by rw [hc21]; decide))])), hS⟩)
  · refine r_aload_n 9 dX1_saves_8 rfl rfl lo0 ?_
    refine r_iload_n 10 dX1_saves_9 rfl rfl lo2 ?_
    refine r_cV1 13 dX1_saves_10 rfl sV_X1_150_1 hm.t (by rfl) (ev_X1_isIsland hm) ?_
    refine r_if_eqB 24 16 dX1_saves_13 rfl (by decide) (fun hc13 => ?_) (fun hc13 => ?_)
    · refine r_iconst 25 dX1_saves_24 rfl ic_m1 ?_
      exact r_iret dX1_saves_25 rfl (Nat.le_refl _) (Nat.le_refl _) (qm hm hF ⟨rq (by unfold sp_saves; first | rw [ix_no (by rw [hz] at hc5; exact btw_f.mp hc5)] | (obtain ⟨j, q, hj, rfl, hq, hix⟩ := ix_ok (l := S.2.2.1) (x := x) (by rw [hz] at hc5; have := btw_t.mp hc5; omega); rw [hix]; dsimp only; rw [if_pos (by unfold isI; rw [← hzi]; first | exact Or.inl (by rw [hc13]; decide) | exact Or.inr (by rw [hc21]; decide))])), hS⟩)
    · refine r_aload_n 17 dX1_saves_16 rfl rfl lo0 ?_
      refine r_iload_n 18 dX1_saves_17 rfl rfl lo3 ?_
      refine r_cV1 21 dX1_saves_18 rfl sV_X1_150_1 hm.t (by rfl) (ev_X1_isIsland hm) ?_
      refine r_if_neB 26 24 dX1_saves_21 rfl (by decide) (fun hc21 => ?_) (fun hc21 => ?_)
      · refine r_iload 28 dX1_saves_26 rfl lo4 ?_
        refine r_cS1 31 dX1_saves_28 rfl sS_X1_137 (by rfl) ev_X1_isHour ?_
        refine r_if_neB 37 34 dX1_saves_31 rfl (by decide) (fun hc31 => ?_) (fun hc31 => ?_)
        · replace hc13 : isI S f = true := by rw [hzi] at hc13; exact hc13
          replace hc21 : isI S t = true := by rw [hzi] at hc21; exact hc21
          obtain ⟨f, hf0, rfl⟩ := isI_nat hc13 hi6
          obtain ⟨t, ht0, rfl⟩ := isI_nat hc21 hi6
          obtain ⟨h, hh, rfl⟩ := hr_ok hc31
          obtain ⟨j, q, hj, rfl, hq, hix⟩ := ix_ok (l := S.2.2.1) (x := x) (by rw [hz] at hc5; have := btw_t.mp hc5; omega)
          obtain ⟨h10, h11, h12, h13, h14, h15, hok⟩ := hS.rd.2.2 j q hq
          obtain ⟨o1, o2, o3, o4, o5, o6, o7, o8⟩ := hok
          refine r_aload_n 38 dX1_saves_37 rfl rfl lo0 ?_
          refine r_get 41 dX1_saves_38 rfl g_X1_37_1 hm.t lo17 ?_
          refine r_iload_n 42 dX1_saves_41 rfl rfl lo1 ?_
          refine r_ialdv 43 dX1_saves_42 rfl hm.a10 _ rfl h10 (by omega) (by decide) ?_
          first | refine r_if_neN 49 46 dX1_saves_43 rfl (by decide) (by omega) (fun hc43 => ?_) (fun hc43 => ?_) | refine r_if_ne 49 46 dX1_saves_43 rfl (by decide) (fun hc43 => ?_) (fun hc43 => ?_)
          · have k1 := h9 q (List.mem_of_getElem? hq)
            refine r_aload_n 50 dX1_saves_49 rfl rfl lo0 ?_
            refine r_iconst 51 dX1_saves_50 rfl ic_0 ?_
            refine rm_v1 54 dX1_saves_51 rfl sV_X1_174_1 hm hF (by rfl) (ev_X1_layRoads (herd := false) hm hS) (fun A m' hP hm hF => ?_)
            obtain ⟨he, h18, h1e, hJ⟩ := hP
            have hS1 := hS.eqm he
            obtain ⟨_, _, _, _, _, h15b, _⟩ := hS1.rd.2.2 j q hq
            refine r_aload_n 55 dX1_saves_54 rfl rfl lo0 ?_
            refine r_iload_n 56 dX1_saves_55 rfl rfl lo2 ?_
            refine r_iload 58 dX1_saves_56 rfl lo4 ?_
            refine rm_v2 61 dX1_saves_58 rfl sV_X1_178_1 hm hF (by rfl) (ev_X1_findThere (S := S) (herd := false) (f0 := f) (h0 := h) hm hS1 hJ hf0 (by omega)) (fun A m' hP hm hF => ?_)
            obtain ⟨g, rfl, hg⟩ := hP
            have hb1 := bf_le (isl := S.1) (ms := S.2.1) (herd := false) (rs := S.2.2.1) (f := f) (x := t) (show h ≤ 2000 by omega)
            refine r_aload_n 62 dX1_saves_61 rfl rfl lo0 ?_
            refine r_get 65 dX1_saves_62 rfl g_X1_61_1 hm.t lo25 ?_
            refine r_iload_n 66 dX1_saves_65 rfl rfl lo3 ?_
            refine r_ialdv 67 dX1_saves_66 rfl hm.a18 _ rfl (show g t = _ from hg t ht0) (by omega) (by decide) ?_
            refine r_sipush 70 dX1_saves_67 rfl si_2000 ?_
            first | refine r_icmp_leN 79 73 dX1_saves_70 rfl (by decide) (by omega) (by omega) (fun hc70 => ?_) (fun hc70 => ?_) | refine r_icmp_le 79 73 dX1_saves_70 rfl (by decide) (fun hc70 => ?_) (fun hc70 => ?_)
            · refine r_aload_n 80 dX1_saves_79 rfl rfl lo0 ?_
              refine r_get 83 dX1_saves_80 rfl g_X1_61_1 hm.t lo25 ?_
              refine r_iload_n 84 dX1_saves_83 rfl rfl lo3 ?_
              refine r_ialdv 85 dX1_saves_84 rfl hm.a18 _ rfl (show g t = _ from hg t ht0) (by omega) (by decide) ?_
              refine r_istore 87 dX1_saves_85 rfl so5 rfl ?_
              refine r_aload_n 88 dX1_saves_87 rfl rfl lo0 ?_
              refine r_get 91 dX1_saves_88 rfl g_X1_52_1 hm.t lo22 ?_
              refine r_iload_n 92 dX1_saves_91 rfl rfl lo1 ?_
              refine r_dup2 93 dX1_saves_92 rfl rfl rfl ?_
              refine r_ialdv 94 dX1_saves_93 rfl hm.a15 _ rfl h15b (by omega) (by decide) ?_
              refine r_iconst 95 dX1_saves_94 rfl ic_1 ?_
              first | refine r_iaddN 96 dX1_saves_95 rfl ?_ | refine r_iadd 96 dX1_saves_95 rfl ?_
              refine rm_iast (N := 10) 97 dX1_saves_96 rfl hm hF (by decide) (by decide) _ rfl rfl (by omega) (by decide) (fun A hm hF => ?_)
              have hS2 : MS (m'.1, va_up (va_up m'.2 18 g) 15 (upd (m'.2 15) j (nI (q.2.2.2.2.2 + 1)))) (sR S (S.2.2.1.set j (md q))) := by
                refine ⟨hS1.1, hS1.mo, hS1.rd.mend hq (by omega), hS1.tr, hS1.fa, hS1.sh, hS1.ok.1.imp (fun h => ⟨h.1, h.2.1, by dsimp only; rw [h.2.2]; rfl⟩) id, fun p hp => ?_⟩
                rcases List.mem_or_eq_of_mem_set hp with h | h
                · exact hS1.ok.2 p h
                · subst h
                  exact ⟨by dsimp only; omega, fun h => absurd h hc43⟩
              have hq2 : (S.2.2.1.set j (md q))[j]? = some (md q) := by rw [List.getElem?_set, if_pos rfl, if_pos hj]
              refine r_aload_n 98 dX1_saves_97 rfl rfl lo0 ?_
              refine r_iconst 99 dX1_saves_98 rfl ic_0 ?_
              refine rm_v1 102 dX1_saves_99 rfl sV_X1_174_1 hm hF (by rfl) (ev_X1_layRoads (S := (sR S (S.2.2.1.set j (md q)))) (herd := false) hm hS2) (fun A m' hP hm hF => ?_)
              obtain ⟨he2, h18b, h1e2, hJ2⟩ := hP
              have hS3 := hS2.eqm he2
              obtain ⟨_, _, _, _, _, h15c, _⟩ := hS3.rd.2.2 j (md q) hq2
              replace h15c : m'.2 15 j = nI (q.2.2.2.2.2 + 1) := h15c
              refine r_aload_n 103 dX1_saves_102 rfl rfl lo0 ?_
              refine r_iload_n 104 dX1_saves_103 rfl rfl lo2 ?_
              refine r_iload 106 dX1_saves_104 rfl lo4 ?_
              refine rm_v2 109 dX1_saves_106 rfl sV_X1_178_1 hm hF (by rfl) (ev_X1_findThere (S := (sR S (S.2.2.1.set j (md q)))) (herd := false) (f0 := f) (h0 := h) hm hS3 hJ2 hf0 (by omega)) (fun A m' hP hm hF => ?_)
              obtain ⟨g2, rfl, hg2⟩ := hP
              have hb2 := bf_le (isl := S.1) (ms := S.2.1) (herd := false) (rs := S.2.2.1.set j (md q)) (f := f) (x := t) (show h ≤ 2000 by omega)
              refine r_aload_n 110 dX1_saves_109 rfl rfl lo0 ?_
              refine r_get 113 dX1_saves_110 rfl g_X1_52_1 hm.t lo22 ?_
              refine r_iload_n 114 dX1_saves_113 rfl rfl lo1 ?_
              refine r_dup2 115 dX1_saves_114 rfl rfl rfl ?_
              refine r_ialdv 116 dX1_saves_115 rfl hm.a15 _ rfl h15c (by omega) (by decide) ?_
              refine r_iconst 117 dX1_saves_116 rfl ic_1 ?_
              first | refine r_isubN 118 dX1_saves_117 rfl (by omega) ?_ | refine r_isub 118 dX1_saves_117 rfl ?_
              refine rm_iast (N := 10) 119 dX1_saves_118 rfl hm hF (by decide) (by decide) _ rfl rfl (by omega) (by decide) (fun A hm hF => ?_)
              refine r_aload_n 120 dX1_saves_119 rfl rfl lo0 ?_
              refine r_get 123 dX1_saves_120 rfl g_X1_61_1 hm.t lo25 ?_
              refine r_iload_n 124 dX1_saves_123 rfl rfl lo3 ?_
              refine r_ialdv 125 dX1_saves_124 rfl hm.a18 _ rfl (show g2 t = nI (bf S.1 S.2.1 false (S.2.2.1.set j (md q)) f h t) from hg2 t ht0) (by omega) (by decide) ?_
              refine r_sipush 128 dX1_saves_125 rfl si_2000 ?_
              first | refine r_icmp_leN 136 131 dX1_saves_128 rfl (by decide) (by omega) (by omega) (fun hc128 => ?_) (fun hc128 => ?_) | refine r_icmp_le 136 131 dX1_saves_128 rfl (by decide) (fun hc128 => ?_) (fun hc128 => ?_)
              · refine r_iload 138 dX1_saves_136 rfl lo5 ?_
                refine r_aload_n 139 dX1_saves_138 rfl rfl lo0 ?_
                refine r_get 142 dX1_saves_139 rfl g_X1_61_1 hm.t lo25 ?_
                refine r_iload_n 143 dX1_saves_142 rfl rfl lo3 ?_
                refine r_ialdv 144 dX1_saves_143 rfl hm.a18 _ rfl (show g2 t = nI (bf S.1 S.2.1 false (S.2.2.1.set j (md q)) f h t) from hg2 t ht0) (by omega) (by decide) ?_
                refine r_isub 145 dX1_saves_144 rfl ?_
                exact r_iret dX1_saves_145 rfl (Nat.le_refl _) (Nat.le_refl _) (qm hm hF ⟨rq (by unfold sp_saves; rw [hix]; dsimp only; rw [if_neg (fun h => h.elim (fun a => a hc13) (fun a => a hc21)), if_neg (fun h => h hc31), if_neg hc43, nI_nat (j := f) (by omega), nI_nat (j := t) (by omega), nI_nat (j := h) (by omega), nI_nat (j := j) (by omega)]; first | rw [if_pos hc128] | (rw [if_neg (Nat.not_lt.mpr hc128)]; first | rw [if_pos hc70] | rw [if_neg (Nat.not_lt.mpr hc70)])), hS1.eqm (Eqm.back (g := g) (a := nI (q.2.2.2.2.2 + 1)) he2 h15b)⟩)
              · refine r_bipush 133 dX1_saves_131 rfl bi_m9 ?_
                refine r_goto 145 dX1_saves_133 (by decide) ?_
                exact r_iret dX1_saves_145 rfl (Nat.le_refl _) (Nat.le_refl _) (qm hm hF ⟨rq (by unfold sp_saves; rw [hix]; dsimp only; rw [if_neg (fun h => h.elim (fun a => a hc13) (fun a => a hc21)), if_neg (fun h => h hc31), if_neg hc43, nI_nat (j := f) (by omega), nI_nat (j := t) (by omega), nI_nat (j := h) (by omega), nI_nat (j := j) (by omega)]; first | rw [if_pos hc128] | (rw [if_neg (Nat.not_lt.mpr hc128)]; first | rw [if_pos hc70] | rw [if_neg (Nat.not_lt.mpr hc70)])), hS1.eqm (Eqm.back (g := g) (a := nI (q.2.2.2.2.2 + 1)) he2 h15b)⟩)
            · refine r_sipush 76 dX1_saves_73 rfl si_2001 ?_
              refine r_goto 85 dX1_saves_76 (by decide) ?_
              refine r_istore 87 dX1_saves_85 rfl so5 rfl ?_
              refine r_aload_n 88 dX1_saves_87 rfl rfl lo0 ?_
              refine r_get 91 dX1_saves_88 rfl g_X1_52_1 hm.t lo22 ?_
              refine r_iload_n 92 dX1_saves_91 rfl rfl lo1 ?_
              refine r_dup2 93 dX1_saves_92 rfl rfl rfl ?_
              refine r_ialdv 94 dX1_saves_93 rfl hm.a15 _ rfl h15b (by omega) (by decide) ?_
              refine r_iconst 95 dX1_saves_94 rfl ic_1 ?_
              first | refine r_iaddN 96 dX1_saves_95 rfl ?_ | refine r_iadd 96 dX1_saves_95 rfl ?_
              refine rm_iast (N := 10) 97 dX1_saves_96 rfl hm hF (by decide) (by decide) _ rfl rfl (by omega) (by decide) (fun A hm hF => ?_)
              have hS2 : MS (m'.1, va_up (va_up m'.2 18 g) 15 (upd (m'.2 15) j (nI (q.2.2.2.2.2 + 1)))) (sR S (S.2.2.1.set j (md q))) := by
                refine ⟨hS1.1, hS1.mo, hS1.rd.mend hq (by omega), hS1.tr, hS1.fa, hS1.sh, hS1.ok.1.imp (fun h => ⟨h.1, h.2.1, by dsimp only; rw [h.2.2]; rfl⟩) id, fun p hp => ?_⟩
                rcases List.mem_or_eq_of_mem_set hp with h | h
                · exact hS1.ok.2 p h
                · subst h
                  exact ⟨by dsimp only; omega, fun h => absurd h hc43⟩
              have hq2 : (S.2.2.1.set j (md q))[j]? = some (md q) := by rw [List.getElem?_set, if_pos rfl, if_pos hj]
              refine r_aload_n 98 dX1_saves_97 rfl rfl lo0 ?_
              refine r_iconst 99 dX1_saves_98 rfl ic_0 ?_
              refine rm_v1 102 dX1_saves_99 rfl sV_X1_174_1 hm hF (by rfl) (ev_X1_layRoads (S := (sR S (S.2.2.1.set j (md q)))) (herd := false) hm hS2) (fun A m' hP hm hF => ?_)
              obtain ⟨he2, h18b, h1e2, hJ2⟩ := hP
              have hS3 := hS2.eqm he2
              obtain ⟨_, _, _, _, _, h15c, _⟩ := hS3.rd.2.2 j (md q) hq2
              replace h15c : m'.2 15 j = nI (q.2.2.2.2.2 + 1) := h15c
              refine r_aload_n 103 dX1_saves_102 rfl rfl lo0 ?_
              refine r_iload_n 104 dX1_saves_103 rfl rfl lo2 ?_
              refine r_iload 106 dX1_saves_104 rfl lo4 ?_
              refine rm_v2 109 dX1_saves_106 rfl sV_X1_178_1 hm hF (by rfl) (ev_X1_findThere (S := (sR S (S.2.2.1.set j (md q)))) (herd := false) (f0 := f) (h0 := h) hm hS3 hJ2 hf0 (by omega)) (fun A m' hP hm hF => ?_)
              obtain ⟨g2, rfl, hg2⟩ := hP
              have hb2 := bf_le (isl := S.1) (ms := S.2.1) (herd := false) (rs := S.2.2.1.set j (md q)) (f := f) (x := t) (show h ≤ 2000 by omega)
              refine r_aload_n 110 dX1_saves_109 rfl rfl lo0 ?_
              refine r_get 113 dX1_saves_110 rfl g_X1_52_1 hm.t lo22 ?_
              refine r_iload_n 114 dX1_saves_113 rfl rfl lo1 ?_
              refine r_dup2 115 dX1_saves_114 rfl rfl rfl ?_
              refine r_ialdv 116 dX1_saves_115 rfl hm.a15 _ rfl h15c (by omega) (by decide) ?_
              refine r_iconst 117 dX1_saves_116 rfl ic_1 ?_
              first | refine r_isubN 118 dX1_saves_117 rfl (by omega) ?_ | refine r_isub 118 dX1_saves_117 rfl ?_
              refine rm_iast (N := 10) 119 dX1_saves_118 rfl hm hF (by decide) (by decide) _ rfl rfl (by omega) (by decide) (fun A hm hF => ?_)
              refine r_aload_n 120 dX1_saves_119 rfl rfl lo0 ?_
              refine r_get 123 dX1_saves_120 rfl g_X1_61_1 hm.t lo25 ?_
              refine r_iload_n 124 dX1_saves_123 rfl rfl lo3 ?_
              refine r_ialdv 125 dX1_saves_124 rfl hm.a18 _ rfl (show g2 t = nI (bf S.1 S.2.1 false (S.2.2.1.set j (md q)) f h t) from hg2 t ht0) (by omega) (by decide) ?_
              refine r_sipush 128 dX1_saves_125 rfl si_2000 ?_
              first | refine r_icmp_leN 136 131 dX1_saves_128 rfl (by decide) (by omega) (by omega) (fun hc128 => ?_) (fun hc128 => ?_) | refine r_icmp_le 136 131 dX1_saves_128 rfl (by decide) (fun hc128 => ?_) (fun hc128 => ?_)
              · refine r_iload 138 dX1_saves_136 rfl lo5 ?_
                refine r_aload_n 139 dX1_saves_138 rfl rfl lo0 ?_
                refine r_get 142 dX1_saves_139 rfl g_X1_61_1 hm.t lo25 ?_
                refine r_iload_n 143 dX1_saves_142 rfl rfl lo3 ?_
                refine r_ialdv 144 dX1_saves_143 rfl hm.a18 _ rfl (show g2 t = nI (bf S.1 S.2.1 false (S.2.2.1.set j (md q)) f h t) from hg2 t ht0) (by omega) (by decide) ?_
                refine r_isub 145 dX1_saves_144 rfl ?_
                exact r_iret dX1_saves_145 rfl (Nat.le_refl _) (Nat.le_refl _) (qm hm hF ⟨rq (by unfold sp_saves; rw [hix]; dsimp only; rw [if_neg (fun h => h.elim (fun a => a hc13) (fun a => a hc21)), if_neg (fun h => h hc31), if_neg hc43, nI_nat (j := f) (by omega), nI_nat (j := t) (by omega), nI_nat (j := h) (by omega), nI_nat (j := j) (by omega)]; first | rw [if_pos hc128] | (rw [if_neg (Nat.not_lt.mpr hc128)]; first | rw [if_pos hc70] | rw [if_neg (Nat.not_lt.mpr hc70)])), hS1.eqm (Eqm.back (g := g) (a := nI (q.2.2.2.2.2 + 1)) he2 h15b)⟩)
              · refine r_bipush 133 dX1_saves_131 rfl bi_m9 ?_
                refine r_goto 145 dX1_saves_133 (by decide) ?_
                exact r_iret dX1_saves_145 rfl (Nat.le_refl _) (Nat.le_refl _) (qm hm hF ⟨rq (by unfold sp_saves; rw [hix]; dsimp only; rw [if_neg (fun h => h.elim (fun a => a hc13) (fun a => a hc21)), if_neg (fun h => h hc31), if_neg hc43, nI_nat (j := f) (by omega), nI_nat (j := t) (by omega), nI_nat (j := h) (by omega), nI_nat (j := j) (by omega)]; first | rw [if_pos hc128] | (rw [if_neg (Nat.not_lt.mpr hc128)]; first | rw [if_pos hc70] | rw [if_neg (Nat.not_lt.mpr hc70)])), hS1.eqm (Eqm.back (g := g) (a := nI (q.2.2.2.2.2 + 1)) he2 h15b)⟩)
          · refine r_bipush 48 dX1_saves_46 rfl bi_m3 ?_
            exact r_iret dX1_saves_48 rfl (Nat.le_refl _) (Nat.le_refl _) (qm hm hF ⟨rq (by unfold sp_saves; rw [hix]; dsimp only; rw [if_neg (fun h => h.elim (fun a => a hc13) (fun a => a hc21)), if_neg (fun h => h hc31), if_pos hc43]), hS⟩)
        · refine r_bipush 36 dX1_saves_34 rfl bi_m2 ?_
          exact r_iret dX1_saves_36 rfl (Nat.le_refl _) (Nat.le_refl _) (qm hm hF ⟨rq (by unfold sp_saves; obtain ⟨j, q, hj, rfl, hq, hix⟩ := ix_ok (l := S.2.2.1) (x := x) (by rw [hz] at hc5; have := btw_t.mp hc5; omega); rw [hix]; dsimp only; rw [hzi] at hc13 hc21; rw [if_neg (fun h => h.elim (fun a => a hc13) (fun a => a hc21)), if_pos (by rw [hc31]; decide)]), hS⟩)
      · refine r_iconst 25 dX1_saves_24 rfl ic_m1 ?_
        exact r_iret dX1_saves_25 rfl (Nat.le_refl _) (Nat.le_refl _) (qm hm hF ⟨rq (by unfold sp_saves; first | rw [ix_no (by rw [hz] at hc5; exact btw_f.mp hc5)] | (obtain ⟨j, q, hj, rfl, hq, hix⟩ := ix_ok (l := S.2.2.1) (x := x) (by rw [hz] at hc5; have := btw_t.mp hc5; omega); rw [hix]; dsimp only; rw [if_pos (by unfold isI; rw [← hzi]; first | exact Or.inl (by rw [hc13]; decide) | exact Or.inr (by rw [hc21]; decide))])), hS⟩)

