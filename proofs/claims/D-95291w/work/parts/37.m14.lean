/-! THE REFERENCE: meeting -/
set_option maxRecDepth 100000
set_option maxHeartbeats 4000000 in
theorem la_X1_meeting {w : WE} {A0 : Hp} {m : MT} {S : ST} {set what : Int32} {h : Nat} {r : Int32} {M : Nat → Nat} {A : Hp} (hS : MS m S) (hM : MetR m S.1 M) (hm : MR w A m) (hF : Fm w A0 A) : ∀ (j x b : Nat), x + j = S.1 → b < S.1 → (r = let b := amin M j x b; if 2000 < M b then -9 else if what.toInt = 0 then nI (M b) else nI b) → Rn w mX1_meeting (rmX 5 0 0) (ZX w (QM w A0 (fun v m' => v = some (.int r) ∧ MS m' S)) 0 0) 0 0 A 175 [some (.ref (mb w)), some (.int set), some (.int (nI h)), some (.int what), some (.int (nI b)), some (.int (nI x))] [] := by
  have hi6 := hS.ok.le
  intro j
  induction j with
  | zero =>
    intro x b hxj hb hr
    have hr : r = if 2000 < M b then -9 else if what.toInt = 0 then nI (M b) else nI b := hr
    obtain ⟨e1, e2⟩ := hM b hb
    refine r_iload 177 dX1_meeting_175 rfl lo5 ?_
    refine r_aload_n 178 dX1_meeting_177 rfl rfl lo0 ?_
    refine r_getv 181 dX1_meeting_178 rfl g_X1_86_1 hm.t lo5 hS.il ?_
    first | refine r_icmp_geN 216 184 dX1_meeting_181 rfl (by decide) (by omega) (by omega) (fun hc181 => ?_) (fun hc181 => ?_) | refine r_icmp_ge 216 184 dX1_meeting_181 rfl (by decide) (fun hc181 => ?_) (fun hc181 => ?_)
    · refine r_aload_n 217 dX1_meeting_216 rfl rfl lo0 ?_
      refine r_get 220 dX1_meeting_217 rfl g_X1_73_1 hm.t lo30 ?_
      refine r_iload 222 dX1_meeting_220 rfl lo4 ?_
      refine r_ialdv 223 dX1_meeting_222 rfl hm.a22 _ rfl e1 (by omega) (by decide) ?_
      refine r_sipush 226 dX1_meeting_223 rfl si_2000 ?_
      first | refine r_icmp_leN 234 229 dX1_meeting_226 rfl (by decide) (by omega) (by omega) (fun hc226 => ?_) (fun hc226 => ?_) | refine r_icmp_le 234 229 dX1_meeting_226 rfl (by decide) (fun hc226 => ?_) (fun hc226 => ?_)
      · refine r_iload_n 235 dX1_meeting_234 rfl rfl lo3 ?_
        refine r_if_ne 248 238 dX1_meeting_235 rfl (by decide) (fun hc235 => ?_) (fun hc235 => ?_)
        · refine r_iload 250 dX1_meeting_248 rfl lo4 ?_
          exact r_iret dX1_meeting_250 rfl (Nat.le_refl _) (Nat.le_refl _) (qm hm hF ⟨rq (by rw [hr]; first | rw [if_pos hc226] | (rw [if_neg (Nat.not_lt.mpr hc226)]; first | rw [if_pos (show what.toInt = 0 from i_eq.mp hc235)] | rw [if_neg (show ¬ what.toInt = 0 from fun e => hc235 (i_eq.mpr e))])), hS⟩)
        · refine r_aload_n 239 dX1_meeting_238 rfl rfl lo0 ?_
          refine r_get 242 dX1_meeting_239 rfl g_X1_73_1 hm.t lo30 ?_
          refine r_iload 244 dX1_meeting_242 rfl lo4 ?_
          refine r_ialdv 245 dX1_meeting_244 rfl hm.a22 _ rfl e1 (by omega) (by decide) ?_
          refine r_goto 250 dX1_meeting_245 (by decide) ?_
          exact r_iret dX1_meeting_250 rfl (Nat.le_refl _) (Nat.le_refl _) (qm hm hF ⟨rq (by rw [hr]; first | rw [if_pos hc226] | (rw [if_neg (Nat.not_lt.mpr hc226)]; first | rw [if_pos (show what.toInt = 0 from i_eq.mp hc235)] | rw [if_neg (show ¬ what.toInt = 0 from fun e => hc235 (i_eq.mpr e))])), hS⟩)
      · refine r_bipush 231 dX1_meeting_229 rfl bi_m9 ?_
        refine r_goto 250 dX1_meeting_231 (by decide) ?_
        exact r_iret dX1_meeting_250 rfl (Nat.le_refl _) (Nat.le_refl _) (qm hm hF ⟨rq (by rw [hr]; first | rw [if_pos hc226] | (rw [if_neg (Nat.not_lt.mpr hc226)]; first | rw [if_pos (show what.toInt = 0 from i_eq.mp hc235)] | rw [if_neg (show ¬ what.toInt = 0 from fun e => hc235 (i_eq.mpr e))])), hS⟩)
    · exact absurd hc181 (by omega)
  | succ j ih =>
    intro x b hxj hb hr
    obtain ⟨e1, e2⟩ := hM b hb
    obtain ⟨e3, e4⟩ := hM x (by omega)
    refine r_iload 177 dX1_meeting_175 rfl lo5 ?_
    refine r_aload_n 178 dX1_meeting_177 rfl rfl lo0 ?_
    refine r_getv 181 dX1_meeting_178 rfl g_X1_86_1 hm.t lo5 hS.il ?_
    first | refine r_icmp_geN 216 184 dX1_meeting_181 rfl (by decide) (by omega) (by omega) (fun hc181 => ?_) (fun hc181 => ?_) | refine r_icmp_ge 216 184 dX1_meeting_181 rfl (by decide) (fun hc181 => ?_) (fun hc181 => ?_)
    · exact absurd hc181 (by omega)
    · refine r_aload_n 185 dX1_meeting_184 rfl rfl lo0 ?_
      refine r_get 188 dX1_meeting_185 rfl g_X1_73_1 hm.t lo30 ?_
      refine r_iload 190 dX1_meeting_188 rfl lo5 ?_
      refine r_ialdv 191 dX1_meeting_190 rfl hm.a22 _ rfl e3 (by omega) (by decide) ?_
      refine r_aload_n 192 dX1_meeting_191 rfl rfl lo0 ?_
      refine r_get 195 dX1_meeting_192 rfl g_X1_73_1 hm.t lo30 ?_
      refine r_iload 197 dX1_meeting_195 rfl lo4 ?_
      refine r_ialdv 198 dX1_meeting_197 rfl hm.a22 _ rfl e1 (by omega) (by decide) ?_
      first | refine r_icmp_geN 206 201 dX1_meeting_198 rfl (by decide) (by omega) (by omega) (fun hc198 => ?_) (fun hc198 => ?_) | refine r_icmp_ge 206 201 dX1_meeting_198 rfl (by decide) (fun hc198 => ?_) (fun hc198 => ?_)
      · refine r_iload 208 dX1_meeting_206 rfl lo4 ?_
        refine r_istore 210 dX1_meeting_208 rfl so4 rfl ?_
        refine r_iinc 213 dX1_meeting_210 rfl lo5 inc1 so5 rfl ?_
        refine r_goto 175 dX1_meeting_213 (by decide) ?_
        first | (have hd : M x < M b := hc198; exact ih (x + 1) x (by omega) (by omega) (by rw [hr, amin_t hd])) | (have hd : M b ≤ M x := hc198; exact ih (x + 1) b (by omega) hb (by rw [hr, amin_f (Nat.not_lt.mpr hd)]))
      · refine r_iload 203 dX1_meeting_201 rfl lo5 ?_
        refine r_goto 208 dX1_meeting_203 (by decide) ?_
        refine r_istore 210 dX1_meeting_208 rfl so4 rfl ?_
        refine r_iinc 213 dX1_meeting_210 rfl lo5 inc1 so5 rfl ?_
        refine r_goto 175 dX1_meeting_213 (by decide) ?_
        first | (have hd : M x < M b := hc198; exact ih (x + 1) x (by omega) (by omega) (by rw [hr, amin_t hd])) | (have hd : M b ≤ M x := hc198; exact ih (x + 1) b (by omega) hb (by rw [hr, amin_f (Nat.not_lt.mpr hd)]))

set_option maxHeartbeats 4000000 in
theorem li_X1_meeting {w : WE} {A0 : Hp} {m : MT} {S : ST} {set what : Int32} {h : Nat} {Z : ZT} {fr : Nat} {M T : Nat → Nat} (hS : MS m S) (hMb : ∀ x, x < S.1 → M x ≤ 9999) (K : ∀ (A : Hp) (m3 : MT) (x5 : Option Value), Eqk m m3 → MetR m3 S.1 (fun x => max (M x) (T x)) → MR w A m3 → Fm w A0 A → Rn w mX1_meeting (rmX 5 0 0) Z 0 0 A 163 [some (.ref (mb w)), some (.int set), some (.int (nI h)), some (.int what), some (.int (nI fr)), x5] []) : ∀ (j i : Nat) (A : Hp) (m2 : MT), i + j = S.1 → Eqk m m2 → ThR m2 S.1 T → (∀ x, x < S.1 → m2.2 22 x = nI (if x < i then max (M x) (T x) else M x)) → MR w A m2 → Fm w A0 A → Rn w mX1_meeting (rmX 5 0 0) Z 0 0 A 107 [some (.ref (mb w)), some (.int set), some (.int (nI h)), some (.int what), some (.int (nI fr)), some (.int (nI i))] [] := by
  have hi6 := hS.ok.le
  intro j
  induction j with
  | zero =>
    intro i A m2 hij he hT hm22 hm hF
    have hS2 := hS.eqm he.1
    refine r_iload 109 dX1_meeting_107 rfl lo5 ?_
    refine r_aload_n 110 dX1_meeting_109 rfl rfl lo0 ?_
    refine r_getv 113 dX1_meeting_110 rfl g_X1_86_1 hm.t lo5 hS2.il ?_
    first | refine r_icmp_geN 163 116 dX1_meeting_113 rfl (by decide) (by omega) (by omega) (fun hc113 => ?_) (fun hc113 => ?_) | refine r_icmp_ge 163 116 dX1_meeting_113 rfl (by decide) (fun hc113 => ?_) (fun hc113 => ?_)
    · exact K A m2 _ he (fun x hx => ⟨by rw [hm22 x hx, if_pos (by omega)], Nat.max_le.mpr ⟨hMb x hx, (hT x hx).2⟩⟩) hm hF
    · exact absurd hc113 (by omega)
  | succ j ih =>
    intro i A m2 hij he hT hm22 hm hF
    have hS2 := hS.eqm he.1
    obtain ⟨t1, t2⟩ := hT i (by omega)
    have u1 := hm22 i (by omega)
    rw [if_neg (by omega)] at u1
    have u2 := hMb i (by omega)
    refine r_iload 109 dX1_meeting_107 rfl lo5 ?_
    refine r_aload_n 110 dX1_meeting_109 rfl rfl lo0 ?_
    refine r_getv 113 dX1_meeting_110 rfl g_X1_86_1 hm.t lo5 hS2.il ?_
    first | refine r_icmp_geN 163 116 dX1_meeting_113 rfl (by decide) (by omega) (by omega) (fun hc113 => ?_) (fun hc113 => ?_) | refine r_icmp_ge 163 116 dX1_meeting_113 rfl (by decide) (fun hc113 => ?_) (fun hc113 => ?_)
    · exact absurd hc113 (by omega)
    · refine r_aload_n 117 dX1_meeting_116 rfl rfl lo0 ?_
      refine r_get 120 dX1_meeting_117 rfl g_X1_73_1 hm.t lo30 ?_
      refine r_iload 122 dX1_meeting_120 rfl lo5 ?_
      refine r_aload_n 123 dX1_meeting_122 rfl rfl lo0 ?_
      refine r_get 126 dX1_meeting_123 rfl g_X1_61_1 hm.t lo25 ?_
      refine r_iload 128 dX1_meeting_126 rfl lo5 ?_
      refine r_ialdv 129 dX1_meeting_128 rfl hm.a18 _ rfl t1 (by omega) (by decide) ?_
      refine r_aload_n 130 dX1_meeting_129 rfl rfl lo0 ?_
      refine r_get 133 dX1_meeting_130 rfl g_X1_73_1 hm.t lo30 ?_
      refine r_iload 135 dX1_meeting_133 rfl lo5 ?_
      refine r_ialdv 136 dX1_meeting_135 rfl hm.a22 _ rfl u1 (by omega) (by decide) ?_
      first | refine r_icmp_leN 149 139 dX1_meeting_136 rfl (by decide) (by omega) (by omega) (fun hc136 => ?_) (fun hc136 => ?_) | refine r_icmp_le 149 139 dX1_meeting_136 rfl (by decide) (fun hc136 => ?_) (fun hc136 => ?_)
      · refine r_aload_n 150 dX1_meeting_149 rfl rfl lo0 ?_
        refine r_get 153 dX1_meeting_150 rfl g_X1_73_1 hm.t lo30 ?_
        refine r_iload 155 dX1_meeting_153 rfl lo5 ?_
        refine r_ialdv 156 dX1_meeting_155 rfl hm.a22 _ rfl u1 (by omega) (by decide) ?_
        refine rm_iast (N := 6) 157 dX1_meeting_156 rfl hm hF (by decide) (by decide) _ rfl rfl (by omega) (by decide) (fun A hm hF => ?_)
        refine r_iinc 160 dX1_meeting_157 rfl lo5 inc1 so5 rfl ?_
        refine r_goto 107 dX1_meeting_160 (by decide) ?_
        have hih := fun a b c => ih (i + 1) A _ (by omega) a b c hm hF
        refine hih (he.arr (by decide)) hT (fun x hx => ?_)
        show upd (m2.2 22) i _ x = _
        by_cases e : x = i
        · subst e
          rw [upd_s, if_pos (by omega)]
          first | (have hd : M x < T x := hc136; rw [Nat.max_eq_right (by omega)]) | (have hd : T x ≤ M x := hc136; rw [Nat.max_eq_left (by omega)])
        · rw [upd_n e, hm22 x hx]
          by_cases h : x < i
          · rw [if_pos h, if_pos (by omega)]
          · rw [if_neg h, if_neg (by omega)]
      · refine r_aload_n 140 dX1_meeting_139 rfl rfl lo0 ?_
        refine r_get 143 dX1_meeting_140 rfl g_X1_61_1 hm.t lo25 ?_
        refine r_iload 145 dX1_meeting_143 rfl lo5 ?_
        refine r_ialdv 146 dX1_meeting_145 rfl hm.a18 _ rfl t1 (by omega) (by decide) ?_
        refine r_goto 156 dX1_meeting_146 (by decide) ?_
        refine rm_iast (N := 6) 157 dX1_meeting_156 rfl hm hF (by decide) (by decide) _ rfl rfl (by omega) (by decide) (fun A hm hF => ?_)
        refine r_iinc 160 dX1_meeting_157 rfl lo5 inc1 so5 rfl ?_
        refine r_goto 107 dX1_meeting_160 (by decide) ?_
        have hih := fun a b c => ih (i + 1) A _ (by omega) a b c hm hF
        refine hih (he.arr (by decide)) hT (fun x hx => ?_)
        show upd (m2.2 22) i _ x = _
        by_cases e : x = i
        · subst e
          rw [upd_s, if_pos (by omega)]
          first | (have hd : M x < T x := hc136; rw [Nat.max_eq_right (by omega)]) | (have hd : T x ≤ M x := hc136; rw [Nat.max_eq_left (by omega)])
        · rw [upd_n e, hm22 x hx]
          by_cases h : x < i
          · rw [if_pos h, if_pos (by omega)]
          · rw [if_neg h, if_neg (by omega)]

set_option maxHeartbeats 4000000 in
theorem lo_X1_meeting {w : WE} {A0 : Hp} {m : MT} {S : ST} {set what : Int32} {h : Nat} {r : Int32} (hS : MS m S) (hJ : JR m S.2.1 S.2.2.1 false) (hh : h ≤ 1999) (hs1 : 0 < S.1) : ∀ (j fr : Nat) (A : Hp) (m2 : MT) (M : Nat → Nat) (x5 : Option Value), fr + j = S.1 → Eqk m m2 → MetR m2 S.1 M → (r = let M := mxs (fun fr x => bfS S false fr h x) set j fr M; let b := amin M (S.1 - 1) 1 0; if 2000 < M b then -9 else if what.toInt = 0 then nI (M b) else nI b) → MR w A m2 → Fm w A0 A → Rn w mX1_meeting (rmX 5 0 0) (ZX w (QM w A0 (fun v m' => v = some (.int r) ∧ MS m' S)) 0 0) 0 0 A 78 [some (.ref (mb w)), some (.int set), some (.int (nI h)), some (.int what), some (.int (nI fr)), x5] [] := by
  have hi6 := hS.ok.le
  intro j
  induction j with
  | zero =>
    intro fr A m2 M x5 hfj he hM hr hm hF
    have hS2 := hS.eqm he.1
    refine r_iload 80 dX1_meeting_78 rfl lo4 ?_
    refine r_aload_n 81 dX1_meeting_80 rfl rfl lo0 ?_
    refine r_getv 84 dX1_meeting_81 rfl g_X1_86_1 hm.t lo5 hS2.il ?_
    first | refine r_icmp_geN 169 87 dX1_meeting_84 rfl (by decide) (by omega) (by omega) (fun hc84 => ?_) (fun hc84 => ?_) | refine r_icmp_ge 169 87 dX1_meeting_84 rfl (by decide) (fun hc84 => ?_) (fun hc84 => ?_)
    · refine r_iconst 170 dX1_meeting_169 rfl ic_0 ?_
      refine r_istore 172 dX1_meeting_170 rfl so4 rfl ?_
      refine r_iconst 173 dX1_meeting_172 rfl ic_1 ?_
      refine r_istore 175 dX1_meeting_173 rfl so5 rfl ?_
      exact la_X1_meeting hS2 hM hm hF (S.1 - 1) 1 0 (by omega) hs1 hr
    · exact absurd hc84 (by omega)
  | succ j ih =>
    intro fr A m2 M x5 hfj he hM hr hm hF
    have hS2 := hS.eqm he.1
    refine r_iload 80 dX1_meeting_78 rfl lo4 ?_
    refine r_aload_n 81 dX1_meeting_80 rfl rfl lo0 ?_
    refine r_getv 84 dX1_meeting_81 rfl g_X1_86_1 hm.t lo5 hS2.il ?_
    first | refine r_icmp_geN 169 87 dX1_meeting_84 rfl (by decide) (by omega) (by omega) (fun hc84 => ?_) (fun hc84 => ?_) | refine r_icmp_ge 169 87 dX1_meeting_84 rfl (by decide) (fun hc84 => ?_) (fun hc84 => ?_)
    · exact absurd hc84 (by omega)
    · refine r_iload_n 88 dX1_meeting_87 rfl rfl lo1 ?_
      refine r_iload 90 dX1_meeting_88 rfl lo4 ?_
      refine r_ishr 91 dX1_meeting_90 rfl ?_
      refine r_iconst 92 dX1_meeting_91 rfl ic_1 ?_
      refine r_iand 93 dX1_meeting_92 rfl ?_
      refine r_iconst 94 dX1_meeting_93 rfl ic_1 ?_
      refine r_icmp_ne 163 97 dX1_meeting_94 rfl (by decide) (fun hc94 => ?_) (fun hc94 => ?_)
      · refine r_iinc 166 dX1_meeting_163 rfl lo4 inc1 so4 rfl ?_
        refine r_goto 78 dX1_meeting_166 (by decide) ?_
        exact ih (fr + 1) A m2 M _ (by omega) he hM (by rw [hr, mxs_f (decide_eq_false hc94)]) hm hF
      · refine r_aload_n 98 dX1_meeting_97 rfl rfl lo0 ?_
        refine r_iload 100 dX1_meeting_98 rfl lo4 ?_
        refine r_iload_n 101 dX1_meeting_100 rfl rfl lo2 ?_
        refine rm_v2 104 dX1_meeting_101 rfl sV_X1_178_1 hm hF (by rfl) (ev_X1_findThere (S := S) (herd := false) (f0 := fr) (h0 := h) hm hS2 (hJ.eq he.2.1 he.2.2) (by omega) (by omega)) (fun A m' hP hm hF => ?_)
        obtain ⟨g, rfl, hg⟩ := hP
        refine r_iconst 105 dX1_meeting_104 rfl ic_0 ?_
        refine r_istore 107 dX1_meeting_105 rfl so5 rfl ?_
        refine li_X1_meeting (m := m) (M := M) (T := fun x => bfS S false fr h x) hS (fun x hx => (hM x hx).2) (fun A m3 x5 he3 hM3 hm hF => ?_) S.1 0 A (m2.1, va_up m2.2 18 g) (by omega) (he.arr (by decide)) (fun x hx => ⟨hg x hx, bf_le (by omega)⟩) (fun x hx => by rw [if_neg (by omega)]; exact (hM x hx).1) hm hF
        refine r_iinc 166 dX1_meeting_163 rfl lo4 inc1 so4 rfl ?_
        refine r_goto 78 dX1_meeting_166 (by decide) ?_
        exact ih (fr + 1) A m3 _ _ (by omega) he3 hM3 (by rw [hr, mxs_t (decide_eq_true hc94)]) hm hF

set_option maxHeartbeats 4000000 in
theorem l0_X1_meeting {w : WE} {A0 : Hp} {m : MT} {S : ST} {set what : Int32} {h : Nat} {r : Int32} {x5 : Option Value} (hS : MS m S) (hJ : JR m S.2.1 S.2.2.1 false) (hh : h ≤ 1999) (hs1 : 0 < S.1) (hr : r = let M := mxs (fun fr x => bfS S false fr h x) set S.1 0 (fun _ => 0); let b := amin M (S.1 - 1) 1 0; if 2000 < M b then -9 else if what.toInt = 0 then nI (M b) else nI b) : ∀ (j i : Nat) (A : Hp) (m2 : MT), i + j = S.1 → Eqk m m2 → (∀ x, x < i → m2.2 22 x = nI 0) → MR w A m2 → Fm w A0 A → Rn w mX1_meeting (rmX 5 0 0) (ZX w (QM w A0 (fun v m' => v = some (.int r) ∧ MS m' S)) 0 0) 0 0 A 52 [some (.ref (mb w)), some (.int set), some (.int (nI h)), some (.int what), some (.int (nI i)), x5] [] := by
  have hi6 := hS.ok.le
  intro j
  induction j with
  | zero =>
    intro i A m2 hij he hz hm hF
    have hS2 := hS.eqm he.1
    refine r_iload 54 dX1_meeting_52 rfl lo4 ?_
    refine r_aload_n 55 dX1_meeting_54 rfl rfl lo0 ?_
    refine r_getv 58 dX1_meeting_55 rfl g_X1_86_1 hm.t lo5 hS2.il ?_
    first | refine r_icmp_geN 75 61 dX1_meeting_58 rfl (by decide) (by omega) (by omega) (fun hc58 => ?_) (fun hc58 => ?_) | refine r_icmp_ge 75 61 dX1_meeting_58 rfl (by decide) (fun hc58 => ?_) (fun hc58 => ?_)
    · refine r_iconst 76 dX1_meeting_75 rfl ic_0 ?_
      refine r_istore 78 dX1_meeting_76 rfl so4 rfl ?_
      exact lo_X1_meeting hS hJ hh hs1 S.1 0 A m2 (fun _ => 0) _ (by omega) he (fun x hx => ⟨hz x (by omega), Nat.zero_le _⟩) hr hm hF
    · exact absurd hc58 (by omega)
  | succ j ih =>
    intro i A m2 hij he hz hm hF
    have hS2 := hS.eqm he.1
    refine r_iload 54 dX1_meeting_52 rfl lo4 ?_
    refine r_aload_n 55 dX1_meeting_54 rfl rfl lo0 ?_
    refine r_getv 58 dX1_meeting_55 rfl g_X1_86_1 hm.t lo5 hS2.il ?_
    first | refine r_icmp_geN 75 61 dX1_meeting_58 rfl (by decide) (by omega) (by omega) (fun hc58 => ?_) (fun hc58 => ?_) | refine r_icmp_ge 75 61 dX1_meeting_58 rfl (by decide) (fun hc58 => ?_) (fun hc58 => ?_)
    · exact absurd hc58 (by omega)
    · refine r_aload_n 62 dX1_meeting_61 rfl rfl lo0 ?_
      refine r_get 65 dX1_meeting_62 rfl g_X1_73_1 hm.t lo30 ?_
      refine r_iload 67 dX1_meeting_65 rfl lo4 ?_
      refine r_iconst 68 dX1_meeting_67 rfl ic_0 ?_
      refine rm_iast (N := 6) 69 dX1_meeting_68 rfl hm hF (by decide) (by decide) _ rfl rfl (by omega) (by decide) (fun A hm hF => ?_)
      refine r_iinc 72 dX1_meeting_69 rfl lo4 inc1 so4 rfl ?_
      refine r_goto 52 dX1_meeting_72 (by decide) ?_
      refine ih (i + 1) A _ (by omega) (he.arr (by decide)) (fun x hx => ?_) hm hF
      show upd (m2.2 22) i _ x = _
      by_cases e : x = i
      · subst e
        rw [upd_s]
      · rw [upd_n e]
        exact hz x (by omega)

set_option maxHeartbeats 4000000 in
theorem ev_X1_meeting {w : WE} {A : Hp} {m : MT} {S : ST} {set hour what : Int32} (hm : MR w A m) (hS : MS m S) : Ev w mX1_meeting 5 0 0 [.ref (mb w), .int set, .int hour, .int what] A (QM w A (fun v m' => v = some (.int (sp_meeting S set hour what)) ∧ MS m' S)) := by
  refine Ev.mk 2 [some (.ref (mb w)), some (.int set), some (.int hour), some (.int what), none, none] rfl plX1 (Nat.le_of_ble_eq_true rfl) ?_
  have hF : Fm w A A := Fm.rf
  have hi6 := hS.ok.le
  have hz : (m.1 5).toInt = (S.1 : Int) := by rw [hS.il, nI_toInt (by omega)]
  have hp6 := pw6 S.1 hi6
  refine r_iload_n 1 dX1_meeting_0 rfl rfl lo1 ?_
  refine r_iconst 2 dX1_meeting_1 rfl ic_1 ?_
  refine r_icmp_lt 31 5 dX1_meeting_2 rfl (by decide) (fun hc2 => ?_) (fun hc2 => ?_)
  · refine r_bipush 33 dX1_meeting_31 rfl bi_m2 ?_
    exact r_iret dX1_meeting_33 rfl (Nat.le_refl _) (Nat.le_refl _) (qm hm hF ⟨rq (by unfold sp_meeting; rw [if_pos (by first | exact Or.inl (fun hh => by have := btw_t.mp hh; have hx := i_lt.mp hc2; rw [nI_toInt (by decide)] at hx; omega) | exact Or.inl (fun hh => by have := btw_t.mp hh; have hx := i_le.mp hc12; rw [shl6 S.1 hi6] at hx; omega) | exact Or.inr (Or.inl (by rw [hc19]; decide)) | exact Or.inr (Or.inr (by rw [hc28]; decide)))]), hS⟩)
  · refine r_iload_n 6 dX1_meeting_5 rfl rfl lo1 ?_
    refine r_iconst 7 dX1_meeting_6 rfl ic_1 ?_
    refine r_aload_n 8 dX1_meeting_7 rfl rfl lo0 ?_
    refine r_getv 11 dX1_meeting_8 rfl g_X1_86_1 hm.t lo5 hS.il ?_
    refine r_ishl 12 dX1_meeting_11 rfl ?_
    refine r_icmp_ge 31 15 dX1_meeting_12 rfl (by decide) (fun hc12 => ?_) (fun hc12 => ?_)
    · refine r_bipush 33 dX1_meeting_31 rfl bi_m2 ?_
      exact r_iret dX1_meeting_33 rfl (Nat.le_refl _) (Nat.le_refl _) (qm hm hF ⟨rq (by unfold sp_meeting; rw [if_pos (by first | exact Or.inl (fun hh => by have := btw_t.mp hh; have hx := i_lt.mp hc2; rw [nI_toInt (by decide)] at hx; omega) | exact Or.inl (fun hh => by have := btw_t.mp hh; have hx := i_le.mp hc12; rw [shl6 S.1 hi6] at hx; omega) | exact Or.inr (Or.inl (by rw [hc19]; decide)) | exact Or.inr (Or.inr (by rw [hc28]; decide)))]), hS⟩)
    · refine r_iload_n 16 dX1_meeting_15 rfl rfl lo2 ?_
      refine r_cS1 19 dX1_meeting_16 rfl sS_X1_137 (by rfl) ev_X1_isHour ?_
      refine r_if_eqB 31 22 dX1_meeting_19 rfl (by decide) (fun hc19 => ?_) (fun hc19 => ?_)
      · refine r_bipush 33 dX1_meeting_31 rfl bi_m2 ?_
        exact r_iret dX1_meeting_33 rfl (Nat.le_refl _) (Nat.le_refl _) (qm hm hF ⟨rq (by unfold sp_meeting; rw [if_pos (by first | exact Or.inl (fun hh => by have := btw_t.mp hh; have hx := i_lt.mp hc2; rw [nI_toInt (by decide)] at hx; omega) | exact Or.inl (fun hh => by have := btw_t.mp hh; have hx := i_le.mp hc12; rw [shl6 S.1 hi6] at hx; omega) | exact Or.inr (Or.inl (by rw [hc19]; decide)) | exact Or.inr (Or.inr (by rw [hc28]; decide)))]), hS⟩)
      · refine r_iload_n 23 dX1_meeting_22 rfl rfl lo3 ?_
        refine r_iconst 24 dX1_meeting_23 rfl ic_0 ?_
        refine r_iconst 25 dX1_meeting_24 rfl ic_1 ?_
        refine r_cS3 28 dX1_meeting_25 rfl sS_X1_82 (by rfl) (ev_X1_within 0 1 (by decide) (by decide)) ?_
        refine r_if_neB 34 31 dX1_meeting_28 rfl (by decide) (fun hc28 => ?_) (fun hc28 => ?_)
        · have hx1 : ¬ set.toInt < (nI 1).toInt := fun e => hc2 (i_lt.mpr e)
          have hx2 : ¬ (nI 1 <<< (nI S.1 &&& 31)).toInt ≤ set.toInt := fun e => hc12 (i_le.mpr e)
          rw [shl6 S.1 hi6] at hx2
          rw [nI_toInt (by decide)] at hx1
          obtain ⟨h, hh, rfl⟩ := hr_ok hc19
          refine r_aload_n 35 dX1_meeting_34 rfl rfl lo0 ?_
          refine r_cV0 38 dX1_meeting_35 rfl sV_X1_140_1 hm.t (by rfl) (ev_X1_isSea hm) ?_
          refine r_if_neB 44 41 dX1_meeting_38 rfl (by decide) (fun hc38 => ?_) (fun hc38 => ?_)
          · refine r_aload_n 45 dX1_meeting_44 rfl rfl lo0 ?_
            refine r_iconst 46 dX1_meeting_45 rfl ic_0 ?_
            refine rm_v1 49 dX1_meeting_46 rfl sV_X1_174_1 hm hF (by rfl) (ev_X1_layRoads (herd := false) hm hS) (fun A m' hP hm hF => ?_)
            obtain ⟨he, h18, h1e, hJ⟩ := hP
            have hS1 := hS.eqm he
            refine r_iconst 50 dX1_meeting_49 rfl ic_0 ?_
            refine r_istore 52 dX1_meeting_50 rfl so4 rfl ?_
            have e : sp_meeting S set (nI h) what = (let M := mxs (fun fr x => bfS S false fr h x) set S.1 0 (fun _ => 0); let b := amin M (S.1 - 1) 1 0; if 2000 < M b then -9 else if what.toInt = 0 then nI (M b) else nI b) := by
              unfold sp_meeting
              rw [if_neg (fun z => z.elim (fun a => a (btw_t.mpr (by omega))) (fun z => z.elim (fun a => a hc19) (fun a => a hc28))), nI_nat (j := h) (by omega)]
            rw [e]
            exact l0_X1_meeting hS1 hJ (by omega) (by have := btw_t.mp hc38; omega) rfl S.1 0 A m' (by omega) Eqk.rf (fun x hx => absurd hx (by omega)) hm hF
          · exact absurd (show (S.1 : Int) = 0 by have := btw_f.mp hc38; omega) (fun e => by rw [show S.1 = 0 by omega] at hx2; omega)
        · refine r_bipush 33 dX1_meeting_31 rfl bi_m2 ?_
          exact r_iret dX1_meeting_33 rfl (Nat.le_refl _) (Nat.le_refl _) (qm hm hF ⟨rq (by unfold sp_meeting; rw [if_pos (by first | exact Or.inl (fun hh => by have := btw_t.mp hh; have hx := i_lt.mp hc2; rw [nI_toInt (by decide)] at hx; omega) | exact Or.inl (fun hh => by have := btw_t.mp hh; have hx := i_le.mp hc12; rw [shl6 S.1 hi6] at hx; omega) | exact Or.inr (Or.inl (by rw [hc19]; decide)) | exact Or.inr (Or.inr (by rw [hc28]; decide)))]), hS⟩)

