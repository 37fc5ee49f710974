/-! THE CLASS: go -/
set_option maxRecDepth 100000
theorem tb0 {y : Nat} (h : Nat.testBit 0 y = true) : False := by
  rw [Nat.zero_testBit] at h
  cases h
/-- two rows of roads alike but for their mends -/
def SimR (rs rs' : List Rd) : Prop := rs.length = rs'.length ∧ ∀ (i : Nat) (q : Rd), rs[i]? = some q → ∃ q' : Rd, rs'[i]? = some q' ∧ q'.2.1 = q.2.1 ∧ q'.2.2.1 = q.2.2.1 ∧ q'.2.2.2.2.1 = q.2.2.2.2.1
set_option maxHeartbeats 4000000 in
theorem ev_X0_isIn {w : WE} {A : Hp} {b : Int32} {k : Nat} : EvI w mX0_isIn 0 [.int b, .int (nI k)] A (bI (bitb b k)) := by
  refine Ev.mk 0 [some (.int b), some (.int (nI k))] rfl plX0 (Nat.le_of_ble_eq_true rfl) ?_
  refine r_iload_n 1 dX0_isIn_0 rfl rfl lo0 ?_
  refine r_iload_n 2 dX0_isIn_1 rfl rfl lo1 ?_
  refine r_ishr 3 dX0_isIn_2 rfl ?_
  refine r_iconst 4 dX0_isIn_3 rfl ic_1 ?_
  refine r_iand 5 dX0_isIn_4 rfl ?_
  refine r_iconst 6 dX0_isIn_5 rfl ic_1 ?_
  refine r_icmp_ne 13 9 dX0_isIn_6 rfl (by decide) (fun hc6 => ?_) (fun hc6 => ?_)
  · refine r_iconst 14 dX0_isIn_13 rfl ic_0 ?_
    exact r_zret dX0_isIn_14 rfl (by first | exact nb_b _ | exact nb_0 | exact nb_1) (Nat.le_refl _) (Nat.le_refl _) (rv (by unfold bitb; first | exact (bd_t _ hc6).symm | exact (bd_f _ hc6).symm))
  · refine r_iconst 10 dX0_isIn_9 rfl ic_1 ?_
    refine r_goto 14 dX0_isIn_10 (by decide) ?_
    exact r_zret dX0_isIn_14 rfl (by first | exact nb_b _ | exact nb_0 | exact nb_1) (Nat.le_refl _) (Nat.le_refl _) (rv (by unfold bitb; first | exact (bd_t _ hc6).symm | exact (bd_f _ hc6).symm))

set_option maxHeartbeats 4000000 in
theorem ls_X0_go {w : WE} {A0 : Hp} {x : XT} {S : ST} {herd : Bool} {f h : Nat} {rs' : List Rd} {A : Hp} {Z : ZT} {Dn t : Nat} {g : Nat → Int32} {T : Nat → Nat} {x8 x9 x10 : Option Value} (hx : XS w A (xr x 15 g) S) (hT : ∀ y, y < S.1 → (xr x 15 g).2.1 15 y = nI (T y)) (hT1 : ∀ y, T y ≤ 2001) (hDn : Dn < 64) : ∀ (j i : Nat) (b : Option Nat), i + j = S.1 → SlI T (fun z => Nat.testBit Dn z = true) i b → (∀ b, SlI T (fun z => Nat.testBit Dn z = true) S.1 b → Rn w mX0_go (rmX 4 0 0) Z 0 0 A 114 [some (.ref (wb w)), some (.int (nI f)), some (.int (nI h)), some (.int (bI herd)), some (.int (nI Dn)), some (.int (nI t)), some (.int (oI b)), some (.int (nI S.1)), x8, x9, x10] []) → Rn w mX0_go (rmX 4 0 0) Z 0 0 A 58 [some (.ref (wb w)), some (.int (nI f)), some (.int (nI h)), some (.int (bI herd)), some (.int (nI Dn)), some (.int (nI t)), some (.int (oI b)), some (.int (nI i)), x8, x9, x10] [] := by
  have hi6 := hx.le
  intro j
  induction j with
  | zero =>
    intro i b hij hs K
    have hi : i = S.1 := by omega
    subst hi
    refine r_iload 60 dX0_go_58 rfl lo7 ?_
    refine r_aload_n 61 dX0_go_60 rfl rfl lo0 ?_
    refine r_getv 64 dX0_go_61 rfl g_X0_61_0 hx.t lo0 hx.il ?_
    first | refine r_icmp_geN 114 67 dX0_go_64 rfl (by decide) (by omega) (by omega) (fun hc64 => ?_) (fun hc64 => ?_) | refine r_icmp_ge 114 67 dX0_go_64 rfl (by decide) (fun hc64 => ?_) (fun hc64 => ?_)
    · exact K b hs
    · exact absurd hc64 (by omega)
  | succ j ih =>
    intro i b hij hs K
    have hin := in6 Dn hDn i (by omega)
    have hi1 := hT1 i
    rcases b with _ | a
    · skip
      refine r_iload 60 dX0_go_58 rfl lo7 ?_
      refine r_aload_n 61 dX0_go_60 rfl rfl lo0 ?_
      refine r_getv 64 dX0_go_61 rfl g_X0_61_0 hx.t lo0 hx.il ?_
      first | refine r_icmp_geN 114 67 dX0_go_64 rfl (by decide) (by omega) (by omega) (fun hc64 => ?_) (fun hc64 => ?_) | refine r_icmp_ge 114 67 dX0_go_64 rfl (by decide) (fun hc64 => ?_) (fun hc64 => ?_)
      · exact absurd hc64 (by omega)
      · refine r_iload 69 dX0_go_67 rfl lo4 ?_
        refine r_iload 71 dX0_go_69 rfl lo7 ?_
        refine r_cS2 74 dX0_go_71 rfl sS_X0_195 (by rfl) ev_X0_isIn ?_
        refine r_if_neB 104 77 dX0_go_74 rfl (by decide) (fun hc74 => ?_) (fun hc74 => ?_)
        · refine r_iload 106 dX0_go_104 rfl lo6 ?_
          refine r_istore 108 dX0_go_106 rfl so6 rfl ?_
          refine r_iinc 111 dX0_go_108 rfl lo7 inc1 so7 rfl ?_
          refine r_goto 58 dX0_go_111 (by decide) ?_
          first
            | exact ih (i + 1) none (by omega) (hs.keep (Or.inl (hin.symm.trans hc74))) K
            | exact ih (i + 1) (some i) (by omega) (hs.take (fun z => by rw [hin, z] at hc74; cases hc74) (fun a ha => by cases ha)) K
        · refine r_iload 79 dX0_go_77 rfl lo6 ?_
          refine r_if_lt 99 82 dX0_go_79 rfl (by decide) (fun hc79 => ?_) (fun hc79 => ?_)
          · refine r_iload 101 dX0_go_99 rfl lo7 ?_
            refine r_goto 106 dX0_go_101 (by decide) ?_
            refine r_istore 108 dX0_go_106 rfl so6 rfl ?_
            refine r_iinc 111 dX0_go_108 rfl lo7 inc1 so7 rfl ?_
            refine r_goto 58 dX0_go_111 (by decide) ?_
            first
              | exact ih (i + 1) none (by omega) (hs.keep (Or.inl (hin.symm.trans hc74))) K
              | exact ih (i + 1) (some i) (by omega) (hs.take (fun z => by rw [hin, z] at hc74; cases hc74) (fun a ha => by cases ha)) K
          · exact absurd (by decide) hc79
    · have ha := (hs.1 a rfl).1
      have ha1 := hT1 a
      refine r_iload 60 dX0_go_58 rfl lo7 ?_
      refine r_aload_n 61 dX0_go_60 rfl rfl lo0 ?_
      refine r_getv 64 dX0_go_61 rfl g_X0_61_0 hx.t lo0 hx.il ?_
      first | refine r_icmp_geN 114 67 dX0_go_64 rfl (by decide) (by omega) (by omega) (fun hc64 => ?_) (fun hc64 => ?_) | refine r_icmp_ge 114 67 dX0_go_64 rfl (by decide) (fun hc64 => ?_) (fun hc64 => ?_)
      · exact absurd hc64 (by omega)
      · refine r_iload 69 dX0_go_67 rfl lo4 ?_
        refine r_iload 71 dX0_go_69 rfl lo7 ?_
        refine r_cS2 74 dX0_go_71 rfl sS_X0_195 (by rfl) ev_X0_isIn ?_
        refine r_if_neB 104 77 dX0_go_74 rfl (by decide) (fun hc74 => ?_) (fun hc74 => ?_)
        · refine r_iload 106 dX0_go_104 rfl lo6 ?_
          refine r_istore 108 dX0_go_106 rfl so6 rfl ?_
          refine r_iinc 111 dX0_go_108 rfl lo7 inc1 so7 rfl ?_
          refine r_goto 58 dX0_go_111 (by decide) ?_
          first
            | exact ih (i + 1) (some i) (by omega) (hs.take (fun z => by rw [hin, z] at hc74; cases hc74) (fun a' ha => by cases ha; exact Nat.le_of_lt hc96)) K
            | exact ih (i + 1) (some a) (by omega) (hs.keep (Or.inr ⟨a, rfl, hc96⟩)) K
            | exact ih (i + 1) (some a) (by omega) (hs.keep (Or.inl (hin.symm.trans hc74))) K
        · refine r_iload 79 dX0_go_77 rfl lo6 ?_
          first | refine r_if_ltN 99 82 dX0_go_79 rfl (by decide) (by omega) (fun hc79 => ?_) (fun hc79 => ?_) | refine r_if_lt 99 82 dX0_go_79 rfl (by decide) (fun hc79 => ?_) (fun hc79 => ?_)
          · exact absurd hc79 (by omega)
          · refine r_aload_n 83 dX0_go_82 rfl rfl lo0 ?_
            refine r_get 86 dX0_go_83 rfl g_X0_40_0 hx.t lo6 ?_
            refine r_iload 88 dX0_go_86 rfl lo7 ?_
            refine r_ialdv 89 dX0_go_88 rfl hx.a15 _ rfl (hT i (by omega)) (by omega) (by decide) ?_
            refine r_aload_n 90 dX0_go_89 rfl rfl lo0 ?_
            refine r_get 93 dX0_go_90 rfl g_X0_40_0 hx.t lo6 ?_
            refine r_iload 95 dX0_go_93 rfl lo6 ?_
            refine r_ialdv 96 dX0_go_95 rfl hx.a15 _ rfl (hT a (by omega)) (by omega) (by decide) ?_
            first | refine r_icmp_geN 104 99 dX0_go_96 rfl (by decide) (by omega) (by omega) (fun hc96 => ?_) (fun hc96 => ?_) | refine r_icmp_ge 104 99 dX0_go_96 rfl (by decide) (fun hc96 => ?_) (fun hc96 => ?_)
            · refine r_iload 106 dX0_go_104 rfl lo6 ?_
              refine r_istore 108 dX0_go_106 rfl so6 rfl ?_
              refine r_iinc 111 dX0_go_108 rfl lo7 inc1 so7 rfl ?_
              refine r_goto 58 dX0_go_111 (by decide) ?_
              first
                | exact ih (i + 1) (some i) (by omega) (hs.take (fun z => by rw [hin, z] at hc74; cases hc74) (fun a' ha => by cases ha; exact Nat.le_of_lt hc96)) K
                | exact ih (i + 1) (some a) (by omega) (hs.keep (Or.inr ⟨a, rfl, hc96⟩)) K
                | exact ih (i + 1) (some a) (by omega) (hs.keep (Or.inl (hin.symm.trans hc74))) K
            · refine r_iload 101 dX0_go_99 rfl lo7 ?_
              refine r_goto 106 dX0_go_101 (by decide) ?_
              refine r_istore 108 dX0_go_106 rfl so6 rfl ?_
              refine r_iinc 111 dX0_go_108 rfl lo7 inc1 so7 rfl ?_
              refine r_goto 58 dX0_go_111 (by decide) ?_
              first
                | exact ih (i + 1) (some i) (by omega) (hs.take (fun z => by rw [hin, z] at hc74; cases hc74) (fun a' ha => by cases ha; exact Nat.le_of_lt hc96)) K
                | exact ih (i + 1) (some a) (by omega) (hs.keep (Or.inr ⟨a, rfl, hc96⟩)) K
                | exact ih (i + 1) (some a) (by omega) (hs.keep (Or.inl (hin.symm.trans hc74))) K

set_option maxHeartbeats 4000000 in
theorem lr_X0_go {w : WE} {A0 : Hp} {x : XT} {S : ST} {herd : Bool} {f h : Nat} {rs' : List Rd} {Z : ZT} {d4 : Int32} {t a : Nat} {T0 : Nat → Nat} (hok : ∀ q ∈ rs', RdOk S.1 q) (hJ : ∀ r q, rs'[r]? = some q → StX x S.2.1 herd r q) (hsm : SimR S.2.2.1 rs') (hi6 : S.1 ≤ 6) (hT01 : ∀ y, T0 y ≤ 2001) (ha : a < S.1) (ha2 : T0 a ≤ 2000) : ∀ (j i : Nat) (A : Hp) (g : Nat → Int32) (T : Nat → Nat) (x8 x9 x10 : Option Value), i + j = S.2.2.1.length → RxI S.2.1 herd rs' f h a T0 i T → XS w A (xr x 15 g) S → Fx w A0 A → (∀ y, y < S.1 → g y = nI (T y)) → (∀ (A : Hp) (g : Nat → Int32) (T : Nat → Nat) (x7 x8 x9 x10 : Option Value), (RxI S.2.1 herd rs' f h a T0 rs'.length T ∨ (2000 < T0 a ∧ T = T0)) → XS w A (xr x 15 g) S → Fx w A0 A → (∀ y, y < S.1 → g y = nI (T y)) → Rn w mX0_go (rmX 4 0 0) Z 0 0 A 251 [some (.ref (wb w)), some (.int (nI f)), some (.int (nI h)), some (.int (bI herd)), some (.int d4), some (.int (nI t)), some (.int (nI a)), x7, x8, x9, x10] []) → Rn w mX0_go (rmX 4 0 0) Z 0 0 A 126 [some (.ref (wb w)), some (.int (nI f)), some (.int (nI h)), some (.int (bI herd)), some (.int d4), some (.int (nI t)), some (.int (nI a)), some (.int (nI i)), x8, x9, x10] [] := by
  intro j
  induction j with
  | zero =>
    intro i A g T x8 x9 x10 hij hR hx hF hT K
    obtain ⟨cr, pr, gr, r1, r2, r3, r4, r5⟩ := hx.rl.use
    have hl10 := hx.ok.2.2.2.1
    have hi : i = S.2.2.1.length := by omega
    subst hi
    refine r_iload 128 dX0_go_126 rfl lo7 ?_
    refine r_aload_n 129 dX0_go_128 rfl rfl lo0 ?_
    refine r_get 132 dX0_go_129 rfl g_X0_28_0 hx.t lo3 ?_
    refine r_cF0 137 dX0_go_132 rfl sF_X0_65_7 r1 (by rfl) (ev_J2_size r1) ?_
    first | refine r_icmp_geN 251 140 dX0_go_137 rfl (by decide) (by omega) (by omega) (fun hc137 => ?_) (fun hc137 => ?_) | refine r_icmp_ge 251 140 dX0_go_137 rfl (by decide) (fun hc137 => ?_) (fun hc137 => ?_)
    · exact K A g T _ _ _ _ (Or.inl (by rw [← hsm.1]; exact hR)) hx hF hT
    · exact absurd hc137 (by omega)
  | succ j ih =>
    intro i A g T x8 x9 x10 hij hR hx hF hT K
    obtain ⟨cr, pr, gr, r1, r2, r3, r4, r5⟩ := hx.rl.use
    have hl10 := hx.ok.2.2.2.1
    have hil : i < S.2.2.1.length := by omega
    obtain ⟨q, hq⟩ := get_of_lt hil
    have hqo := hx.rok hq
    obtain ⟨q', hq', m1, m2, m3⟩ := hsm.2 i q hq
    have hqo' := hok q' (List.mem_of_getElem? hq')
    have et : tkO herd q' = tkO herd q := by
      unfold tkO
      rw [m3]
    have eo : othr q' a = othr q a := by
      unfold othr
      rw [m1, m2]
    have hrd := hx.rd i q hq
    have hk := hqo.1
    have htk := tkO_le (herd := herd) hqo
    have hta : T a = T0 a := hR.1
    have haT : (xr x 15 g).2.1 15 a = nI (T a) := hT a ha
    have hb2 : q.2.1 < 6 ∧ q.2.2.1 < 6 := ⟨by have := hqo.2.1; omega, by have := hqo.2.2.1; omega⟩
    by_cases hj : q.2.1 = a ∨ q.2.2.1 = a
    · have hol : othr q a < S.1 := by
        unfold othr
        split
        · exact hqo.2.2.1
        · exact hqo.2.1
      have hto : (xr x 15 g).2.1 15 (othr q a) = nI (T (othr q a)) := hT _ hol
      have hto1 := hR.le hT01 (othr q a)
      rcases hs : stt S.2.1 q' (tkO herd q') (T0 a) with _ | s
      · have hst : (xr x 15 g).2.1 (5 + i) (T a) = nI 2001 := by
          show va_up x.2.1 15 g (5 + i) (T a) = _
          rw [va_un (by omega), hJ i q' hq' (T a) (by omega), hta, hs]
          rfl
        refine r_iload 128 dX0_go_126 rfl lo7 ?_
        refine r_aload_n 129 dX0_go_128 rfl rfl lo0 ?_
        refine r_get 132 dX0_go_129 rfl g_X0_28_0 hx.t lo3 ?_
        refine r_cF0 137 dX0_go_132 rfl sF_X0_65_7 r1 (by rfl) (ev_J2_size r1) ?_
        first | refine r_icmp_geN 251 140 dX0_go_137 rfl (by decide) (by omega) (by omega) (fun hc137 => ?_) (fun hc137 => ?_) | refine r_icmp_ge 251 140 dX0_go_137 rfl (by decide) (fun hc137 => ?_) (fun hc137 => ?_)
        · exact absurd hc137 (by omega)
        · refine r_aload_n 141 dX0_go_140 rfl rfl lo0 ?_
          refine r_get 144 dX0_go_141 rfl g_X0_40_0 hx.t lo6 ?_
          refine r_iload 146 dX0_go_144 rfl lo6 ?_
          refine r_ialdv 147 dX0_go_146 rfl hx.a15 _ rfl haT (by omega) (by decide) ?_
          refine r_sipush 150 dX0_go_147 rfl si_2001 ?_
          first | refine r_icmp_geN 251 153 dX0_go_150 rfl (by decide) (by omega) (by omega) (fun hc150 => ?_) (fun hc150 => ?_) | refine r_icmp_ge 251 153 dX0_go_150 rfl (by decide) (fun hc150 => ?_) (fun hc150 => ?_)
          · exact absurd hc150 (by omega)
          · refine r_aload_n 154 dX0_go_153 rfl rfl lo0 ?_
            refine r_get 157 dX0_go_154 rfl g_X0_28_0 hx.t lo3 ?_
            refine r_iload 159 dX0_go_157 rfl lo7 ?_
            refine r_cF1 164 dX0_go_159 rfl sF_X0_112_7 r1 (by rfl) (ev_J2_get r1 r2 hil r3 (by omega) (r5 i hil)) ?_
            refine r_castY 167 dX0_go_164 rfl (sC_X0_147 hk) hrd.2 ?_
            refine r_astore 169 dX0_go_167 rfl so8 rfl ?_
            refine r_aload 171 dX0_go_169 rfl lo8 ?_
            refine r_iload 173 dX0_go_171 rfl lo6 ?_
            refine rR1 176 dX0_go_173 rfl sV_X0_198_3 sU_X0_198_4 sU_X0_198_5 hrd.2 hk (by rfl) (by rfl) (by rfl) (fun _ => ev_X6_joins hrd.2 hk (by omega) (by omega)) (fun _ => ev_X6_joins hrd.2 hk (by omega) (by omega)) (fun _ => ev_X6_joins hrd.2 hk (by omega) (by omega)) ?_
            refine r_if_eqB 197 179 dX0_go_176 rfl (by decide) (fun hc176 => ?_) (fun hc176 => ?_)
            · exact absurd hj (of_decide_eq_false hc176)
            · refine r_aload_n 180 dX0_go_179 rfl rfl lo0 ?_
              refine r_get 183 dX0_go_180 rfl g_X0_37_0 hx.t lo5 ?_
              refine r_iload 185 dX0_go_183 rfl lo7 ?_
              refine r_aaldT (t := 3) 186 dX0_go_185 rfl rfl rfl hx.s4 i rfl (by omega) (by decide) rfl ?_
              refine r_aload_n 187 dX0_go_186 rfl rfl lo0 ?_
              refine r_get 190 dX0_go_187 rfl g_X0_40_0 hx.t lo6 ?_
              refine r_iload 192 dX0_go_190 rfl lo6 ?_
              refine r_ialdv 193 dX0_go_192 rfl hx.a15 _ rfl haT (by omega) (by decide) ?_
              refine r_ialdv 194 dX0_go_193 rfl (hx.row (r := i) (by omega)) _ rfl hst (by omega) (by decide) ?_
              refine r_goto 200 dX0_go_194 (by decide) ?_
              refine r_istore 202 dX0_go_200 rfl so9 rfl ?_
              refine r_iload 204 dX0_go_202 rfl lo9 ?_
              refine r_sipush 207 dX0_go_204 rfl si_2001 ?_
              first | refine r_icmp_geN 245 210 dX0_go_207 rfl (by decide) (by omega) (by omega) (fun hc207 => ?_) (fun hc207 => ?_) | refine r_icmp_ge 245 210 dX0_go_207 rfl (by decide) (fun hc207 => ?_) (fun hc207 => ?_)
              · refine r_iinc 248 dX0_go_245 rfl lo7 inc1 so7 rfl ?_
                refine r_goto 126 dX0_go_248 (by decide) ?_
                exact ih (i + 1) A g T _ _ _ (by omega) (hR.skip hq' (Or.inr hs)) hx hF hT K
              · exact absurd hc207 (by decide)
      · have hsl := stt_le ha2 hs
        have hgo := hR.go hq' hqo' (by rw [m1, m2]; exact hj) ha2 hs
        rw [eo, et] at hgo
        rw [et] at hsl
        have hst : (xr x 15 g).2.1 (5 + i) (T a) = nI s := by
          show va_up x.2.1 15 g (5 + i) (T a) = _
          rw [va_un (by omega), hJ i q' hq' (T a) (by omega), hta, hs]
          rfl
        refine r_iload 128 dX0_go_126 rfl lo7 ?_
        refine r_aload_n 129 dX0_go_128 rfl rfl lo0 ?_
        refine r_get 132 dX0_go_129 rfl g_X0_28_0 hx.t lo3 ?_
        refine r_cF0 137 dX0_go_132 rfl sF_X0_65_7 r1 (by rfl) (ev_J2_size r1) ?_
        first | refine r_icmp_geN 251 140 dX0_go_137 rfl (by decide) (by omega) (by omega) (fun hc137 => ?_) (fun hc137 => ?_) | refine r_icmp_ge 251 140 dX0_go_137 rfl (by decide) (fun hc137 => ?_) (fun hc137 => ?_)
        · exact absurd hc137 (by omega)
        · refine r_aload_n 141 dX0_go_140 rfl rfl lo0 ?_
          refine r_get 144 dX0_go_141 rfl g_X0_40_0 hx.t lo6 ?_
          refine r_iload 146 dX0_go_144 rfl lo6 ?_
          refine r_ialdv 147 dX0_go_146 rfl hx.a15 _ rfl haT (by omega) (by decide) ?_
          refine r_sipush 150 dX0_go_147 rfl si_2001 ?_
          first | refine r_icmp_geN 251 153 dX0_go_150 rfl (by decide) (by omega) (by omega) (fun hc150 => ?_) (fun hc150 => ?_) | refine r_icmp_ge 251 153 dX0_go_150 rfl (by decide) (fun hc150 => ?_) (fun hc150 => ?_)
          · exact absurd hc150 (by omega)
          · refine r_aload_n 154 dX0_go_153 rfl rfl lo0 ?_
            refine r_get 157 dX0_go_154 rfl g_X0_28_0 hx.t lo3 ?_
            refine r_iload 159 dX0_go_157 rfl lo7 ?_
            refine r_cF1 164 dX0_go_159 rfl sF_X0_112_7 r1 (by rfl) (ev_J2_get r1 r2 hil r3 (by omega) (r5 i hil)) ?_
            refine r_castY 167 dX0_go_164 rfl (sC_X0_147 hk) hrd.2 ?_
            refine r_astore 169 dX0_go_167 rfl so8 rfl ?_
            refine r_aload 171 dX0_go_169 rfl lo8 ?_
            refine r_iload 173 dX0_go_171 rfl lo6 ?_
            refine rR1 176 dX0_go_173 rfl sV_X0_198_3 sU_X0_198_4 sU_X0_198_5 hrd.2 hk (by rfl) (by rfl) (by rfl) (fun _ => ev_X6_joins hrd.2 hk (by omega) (by omega)) (fun _ => ev_X6_joins hrd.2 hk (by omega) (by omega)) (fun _ => ev_X6_joins hrd.2 hk (by omega) (by omega)) ?_
            refine r_if_eqB 197 179 dX0_go_176 rfl (by decide) (fun hc176 => ?_) (fun hc176 => ?_)
            · exact absurd hj (of_decide_eq_false hc176)
            · refine r_aload_n 180 dX0_go_179 rfl rfl lo0 ?_
              refine r_get 183 dX0_go_180 rfl g_X0_37_0 hx.t lo5 ?_
              refine r_iload 185 dX0_go_183 rfl lo7 ?_
              refine r_aaldT (t := 3) 186 dX0_go_185 rfl rfl rfl hx.s4 i rfl (by omega) (by decide) rfl ?_
              refine r_aload_n 187 dX0_go_186 rfl rfl lo0 ?_
              refine r_get 190 dX0_go_187 rfl g_X0_40_0 hx.t lo6 ?_
              refine r_iload 192 dX0_go_190 rfl lo6 ?_
              refine r_ialdv 193 dX0_go_192 rfl hx.a15 _ rfl haT (by omega) (by decide) ?_
              refine r_ialdv 194 dX0_go_193 rfl (hx.row (r := i) (by omega)) _ rfl hst (by omega) (by decide) ?_
              refine r_goto 200 dX0_go_194 (by decide) ?_
              refine r_istore 202 dX0_go_200 rfl so9 rfl ?_
              refine r_iload 204 dX0_go_202 rfl lo9 ?_
              refine r_sipush 207 dX0_go_204 rfl si_2001 ?_
              first | refine r_icmp_geN 245 210 dX0_go_207 rfl (by decide) (by omega) (by omega) (fun hc207 => ?_) (fun hc207 => ?_) | refine r_icmp_ge 245 210 dX0_go_207 rfl (by decide) (fun hc207 => ?_) (fun hc207 => ?_)
              · exact absurd hc207 (by omega)
              · refine r_aload 212 dX0_go_210 rfl lo8 ?_
                refine r_iload 214 dX0_go_212 rfl lo6 ?_
                refine rR1 217 dX0_go_214 rfl sV_X0_201_3 sU_X0_201_4 sU_X0_201_5 hrd.2 hk (by rfl) (by rfl) (by rfl) (fun _ => ev_X6_other hrd.2 hk (by omega) (by omega)) (fun _ => ev_X6_other hrd.2 hk (by omega) (by omega)) (fun _ => ev_X6_other hrd.2 hk (by omega) (by omega)) ?_
                refine r_istore 219 dX0_go_217 rfl so10 rfl ?_
                refine r_aload_n 220 dX0_go_219 rfl rfl lo0 ?_
                refine r_get 223 dX0_go_220 rfl g_X0_40_0 hx.t lo6 ?_
                refine r_iload 225 dX0_go_223 rfl lo10 ?_
                refine r_aload_n 226 dX0_go_225 rfl rfl lo0 ?_
                refine r_get 229 dX0_go_226 rfl g_X0_40_0 hx.t lo6 ?_
                refine r_iload 231 dX0_go_229 rfl lo10 ?_
                refine r_ialdv 232 dX0_go_231 rfl hx.a15 _ rfl hto (by omega) (by decide) ?_
                refine r_iload 234 dX0_go_232 rfl lo9 ?_
                refine r_aload 236 dX0_go_234 rfl lo8 ?_
                refine r_iload_n 237 dX0_go_236 rfl rfl lo3 ?_
                refine rR1 240 dX0_go_237 rfl sV_X0_184_3 sU_X0_184_4 sU_X0_184_5 hrd.2 hk (by rfl) (by rfl) (by rfl) (fun _ => ev_X6_takes hrd.2 hk) (fun _ => ev_X6_takes hrd.2 hk) (fun _ => ev_X6_takes hrd.2 hk) ?_
                first | refine r_iaddN 241 dX0_go_240 rfl ?_ | refine r_iadd 241 dX0_go_240 rfl ?_
                refine r_mminN 244 dX0_go_241 rfl q510 (by rfl) (by omega) (by omega) ?_
                refine rx_iast (kk := 15) (N := 6) 245 dX0_go_244 rfl hx hF (Or.inr (by decide)) _ rfl rfl (by omega) (by decide) (fun A hx hF => ?_)
                rw [bx_uu] at hx
                refine r_iinc 248 dX0_go_245 rfl lo7 inc1 so7 rfl ?_
                refine r_goto 126 dX0_go_248 (by decide) ?_
                refine ih (i + 1) A _ _ _ _ _ (by omega) hgo hx hF (fun y hy => ?_) K
                show upd g (othr q a) _ y = _
                unfold upd upN
                split
                · rfl
                · exact hT y hy
    refine r_iload 128 dX0_go_126 rfl lo7 ?_
    refine r_aload_n 129 dX0_go_128 rfl rfl lo0 ?_
    refine r_get 132 dX0_go_129 rfl g_X0_28_0 hx.t lo3 ?_
    refine r_cF0 137 dX0_go_132 rfl sF_X0_65_7 r1 (by rfl) (ev_J2_size r1) ?_
    first | refine r_icmp_geN 251 140 dX0_go_137 rfl (by decide) (by omega) (by omega) (fun hc137 => ?_) (fun hc137 => ?_) | refine r_icmp_ge 251 140 dX0_go_137 rfl (by decide) (fun hc137 => ?_) (fun hc137 => ?_)
    · exact absurd hc137 (by omega)
    · refine r_aload_n 141 dX0_go_140 rfl rfl lo0 ?_
      refine r_get 144 dX0_go_141 rfl g_X0_40_0 hx.t lo6 ?_
      refine r_iload 146 dX0_go_144 rfl lo6 ?_
      refine r_ialdv 147 dX0_go_146 rfl hx.a15 _ rfl haT (by omega) (by decide) ?_
      refine r_sipush 150 dX0_go_147 rfl si_2001 ?_
      first | refine r_icmp_geN 251 153 dX0_go_150 rfl (by decide) (by omega) (by omega) (fun hc150 => ?_) (fun hc150 => ?_) | refine r_icmp_ge 251 153 dX0_go_150 rfl (by decide) (fun hc150 => ?_) (fun hc150 => ?_)
      · exact absurd hc150 (by omega)
      · refine r_aload_n 154 dX0_go_153 rfl rfl lo0 ?_
        refine r_get 157 dX0_go_154 rfl g_X0_28_0 hx.t lo3 ?_
        refine r_iload 159 dX0_go_157 rfl lo7 ?_
        refine r_cF1 164 dX0_go_159 rfl sF_X0_112_7 r1 (by rfl) (ev_J2_get r1 r2 hil r3 (by omega) (r5 i hil)) ?_
        refine r_castY 167 dX0_go_164 rfl (sC_X0_147 hk) hrd.2 ?_
        refine r_astore 169 dX0_go_167 rfl so8 rfl ?_
        refine r_aload 171 dX0_go_169 rfl lo8 ?_
        refine r_iload 173 dX0_go_171 rfl lo6 ?_
        refine rR1 176 dX0_go_173 rfl sV_X0_198_3 sU_X0_198_4 sU_X0_198_5 hrd.2 hk (by rfl) (by rfl) (by rfl) (fun _ => ev_X6_joins hrd.2 hk (by omega) (by omega)) (fun _ => ev_X6_joins hrd.2 hk (by omega) (by omega)) (fun _ => ev_X6_joins hrd.2 hk (by omega) (by omega)) ?_
        refine r_if_eqB 197 179 dX0_go_176 rfl (by decide) (fun hc176 => ?_) (fun hc176 => ?_)
        · refine r_sipush 200 dX0_go_197 rfl si_2001 ?_
          refine r_istore 202 dX0_go_200 rfl so9 rfl ?_
          refine r_iload 204 dX0_go_202 rfl lo9 ?_
          refine r_sipush 207 dX0_go_204 rfl si_2001 ?_
          first | refine r_icmp_geN 245 210 dX0_go_207 rfl (by decide) (by omega) (by omega) (fun hc207 => ?_) (fun hc207 => ?_) | refine r_icmp_ge 245 210 dX0_go_207 rfl (by decide) (fun hc207 => ?_) (fun hc207 => ?_)
          · refine r_iinc 248 dX0_go_245 rfl lo7 inc1 so7 rfl ?_
            refine r_goto 126 dX0_go_248 (by decide) ?_
            exact ih (i + 1) A g T _ _ _ (by omega) (hR.skip hq' (Or.inl (by rw [m1, m2]; exact hj))) hx hF hT K
          · exact absurd hc207 (by decide)
        · exact absurd (of_decide_eq_true hc176) hj

set_option maxHeartbeats 4000000 in
theorem lo_X0_go {w : WE} {A0 : Hp} {x : XT} {S : ST} {herd : Bool} {f h : Nat} {rs' : List Rd} (hok : ∀ q ∈ rs', RdOk S.1 q) (hJ : ∀ r q, rs'[r]? = some q → StX x S.2.1 herd r q) (hsm : SimR S.2.2.1 rs') (hi6 : S.1 ≤ 6) (hh : h ≤ 2000) : ∀ (j t Dn : Nat) (A : Hp) (g : Nat → Int32) (T : Nat → Nat) (x6 x7 x8 x9 x10 : Option Value), t + j = S.1 → Dn < 64 → cn (fun z => Nat.testBit Dn z = true) S.1 = t → DkI S.1 S.2.1 herd rs' f h T (fun z => Nat.testBit Dn z = true) → XS w A (xr x 15 g) S → Fx w A0 A → (∀ y, y < S.1 → g y = nI (T y)) → Rn w mX0_go (rmX 4 0 0) (ZX w (fun v A' => v = none ∧ (fun A' => ∃ g : Nat → Int32, XS w A' (xr x 15 g) S ∧ Fx w A0 A' ∧ ∀ y, y < S.1 → g y = nI (cp (bf S.1 S.2.1 herd rs' f h y))) A') 0 0) 0 0 A 42 [some (.ref (wb w)), some (.int (nI f)), some (.int (nI h)), some (.int (bI herd)), some (.int (nI Dn)), some (.int (nI t)), x6, x7, x8, x9, x10] [] := by
  intro j
  induction j with
  | zero =>
    intro t Dn A g T x6 x7 x8 x9 x10 htj hDn hc hI hx hF hT
    refine r_iload 44 dX0_go_42 rfl lo5 ?_
    refine r_aload_n 45 dX0_go_44 rfl rfl lo0 ?_
    refine r_getv 48 dX0_go_45 rfl g_X0_61_0 hx.t lo0 hx.il ?_
    first | refine r_icmp_geN 257 51 dX0_go_48 rfl (by decide) (by omega) (by omega) (fun hc48 => ?_) (fun hc48 => ?_) | refine r_icmp_ge 257 51 dX0_go_48 rfl (by decide) (fun hc48 => ?_) (fun hc48 => ?_)
    · exact r_vret dX0_go_257 rfl (Nat.le_refl _) (Nat.le_refl _) ⟨rfl, g, hx, hF, fun y hy => (hT y hy).trans (congrArg nI (hI.done hok hh (cn_full (by omega)) hy))⟩
    · exact absurd hc48 (by omega)
  | succ j ih =>
    intro t Dn A g T x6 x7 x8 x9 x10 htj hDn hc hI hx hF hT
    refine r_iload 44 dX0_go_42 rfl lo5 ?_
    refine r_aload_n 45 dX0_go_44 rfl rfl lo0 ?_
    refine r_getv 48 dX0_go_45 rfl g_X0_61_0 hx.t lo0 hx.il ?_
    first | refine r_icmp_geN 257 51 dX0_go_48 rfl (by decide) (by omega) (by omega) (fun hc48 => ?_) (fun hc48 => ?_) | refine r_icmp_ge 257 51 dX0_go_48 rfl (by decide) (fun hc48 => ?_) (fun hc48 => ?_)
    · exact absurd hc48 (by omega)
    · refine r_bipush 53 dX0_go_51 rfl bi_m9 ?_
      refine r_istore 55 dX0_go_53 rfl so6 rfl ?_
      refine r_iconst 56 dX0_go_55 rfl ic_0 ?_
      refine r_istore 58 dX0_go_56 rfl so7 rfl ?_
      refine ls_X0_go (A0 := A0) (rs' := rs') hx hT hI.2.1 hDn S.1 0 none (by omega) SlI.zero (fun b hsl => ?_)
      obtain ⟨a, rfl, hN⟩ := hsl.end_ (by omega)
      rw [show oI (some a) = nI a from rfl]
      have ha := hN.1
      have h6 := lt6 Dn hDn a (by omega)
      have hD' : ∀ x, x < S.1 → (Nat.testBit (Dn ||| 2 ^ a) x = true ↔ Nat.testBit Dn x = true ∨ x = a) := fun x hx => by
        rw [tb6 Dn hDn a (by omega) x (by omega), Bool.or_eq_true, decide_eq_true_eq]
      have hcn : cn (fun z => Nat.testBit (Dn ||| 2 ^ a) z = true) S.1 = t + 1 := by
        rw [cn_add (p := (fun z => Nat.testBit Dn z = true)) (a := a) hN.2.1 ((hD' a ha).mpr (Or.inr rfl)) S.1 (fun x hx hne => (hD' x hx).trans ⟨fun z => z.resolve_right hne, Or.inl⟩) ha, hc]
      refine r_iload 116 dX0_go_114 rfl lo4 ?_
      refine r_iconst 117 dX0_go_116 rfl ic_1 ?_
      refine r_iload 119 dX0_go_117 rfl lo6 ?_
      refine r_ishl 120 dX0_go_119 rfl ?_
      refine r_ior 121 dX0_go_120 rfl ?_
      rw [or6 Dn hDn a (by omega)]
      refine r_istore 123 dX0_go_121 rfl so4 rfl ?_
      refine r_iconst 124 dX0_go_123 rfl ic_0 ?_
      refine r_istore 126 dX0_go_124 rfl so7 rfl ?_
      have K : ∀ (A : Hp) (g : Nat → Int32) (T' : Nat → Nat) (x7 x8 x9 x10 : Option Value), (RxI S.2.1 herd rs' f h a T rs'.length T' ∨ (2000 < T a ∧ T' = T)) → XS w A (xr x 15 g) S → Fx w A0 A → (∀ y, y < S.1 → g y = nI (T' y)) → Rn w mX0_go (rmX 4 0 0) (ZX w (fun v A' => v = none ∧ (fun A' => ∃ g : Nat → Int32, XS w A' (xr x 15 g) S ∧ Fx w A0 A' ∧ ∀ y, y < S.1 → g y = nI (cp (bf S.1 S.2.1 herd rs' f h y))) A') 0 0) 0 0 A 251 [some (.ref (wb w)), some (.int (nI f)), some (.int (nI h)), some (.int (bI herd)), some (.int (nI (Dn ||| 2 ^ a))), some (.int (nI t)), some (.int (nI a)), x7, x8, x9, x10] [] := by
        intro A g T' x7 x8 x9 x10 hR hx hF hT
        refine r_iinc 254 dX0_go_251 rfl lo5 inc1 so5 rfl ?_
        refine r_goto 42 dX0_go_254 (by decide) ?_
        exact ih (t + 1) (Dn ||| 2 ^ a) A g T' _ _ _ _ _ (by omega) h6 hcn (hI.step hN hok hR hD') hx hF hT
      by_cases h2 : T a ≤ 2000
      · exact lr_X0_go hok hJ hsm hi6 hI.2.1 ha h2 S.2.2.1.length 0 A g T _ _ _ (by omega) (RxI.zero hI.2.2.1) hx hF hT K
      · obtain ⟨cr, pr, gr, r1, r2, r3, r4, r5⟩ := hx.rl.use
        have hl10 := hx.ok.2.2.2.1
        have ha1 := hI.2.1 a
        have haT : (xr x 15 g).2.1 15 a = nI (T a) := hT a ha
        refine r_iload 128 dX0_go_126 rfl lo7 ?_
        refine r_aload_n 129 dX0_go_128 rfl rfl lo0 ?_
        refine r_get 132 dX0_go_129 rfl g_X0_28_0 hx.t lo3 ?_
        refine r_cF0 137 dX0_go_132 rfl sF_X0_65_7 r1 (by rfl) (ev_J2_size r1) ?_
        first | refine r_icmp_geN 251 140 dX0_go_137 rfl (by decide) (by omega) (by omega) (fun hc137 => ?_) (fun hc137 => ?_) | refine r_icmp_ge 251 140 dX0_go_137 rfl (by decide) (fun hc137 => ?_) (fun hc137 => ?_)
        · exact K A g T _ _ _ _ (Or.inr ⟨by omega, rfl⟩) hx hF hT
        · refine r_aload_n 141 dX0_go_140 rfl rfl lo0 ?_
          refine r_get 144 dX0_go_141 rfl g_X0_40_0 hx.t lo6 ?_
          refine r_iload 146 dX0_go_144 rfl lo6 ?_
          refine r_ialdv 147 dX0_go_146 rfl hx.a15 _ rfl haT (by omega) (by decide) ?_
          refine r_sipush 150 dX0_go_147 rfl si_2001 ?_
          first | refine r_icmp_geN 251 153 dX0_go_150 rfl (by decide) (by omega) (by omega) (fun hc150 => ?_) (fun hc150 => ?_) | refine r_icmp_ge 251 153 dX0_go_150 rfl (by decide) (fun hc150 => ?_) (fun hc150 => ?_)
          · exact K A g T _ _ _ _ (Or.inr ⟨by omega, rfl⟩) hx hF hT
          · exact absurd hc150 (by omega)

set_option maxHeartbeats 4000000 in
theorem li_X0_go {w : WE} {A0 : Hp} {x : XT} {S : ST} {herd : Bool} {f h : Nat} {rs' : List Rd} (hok : ∀ q ∈ rs', RdOk S.1 q) (hJ : ∀ r q, rs'[r]? = some q → StX x S.2.1 herd r q) (hsm : SimR S.2.2.1 rs') (hi6 : S.1 ≤ 6) (hf : f < S.1) (hh : h ≤ 2000) : ∀ (j i : Nat) (A : Hp) (g : Nat → Int32) (x5 x6 x7 x8 x9 x10 : Option Value), i + j = 6 → (∀ y, y < i → g y = nI (if y = f then h else 2001)) → XS w A (xr x 15 g) S → Fx w A0 A → Rn w mX0_go (rmX 4 0 0) (ZX w (fun v A' => v = none ∧ (fun A' => ∃ g : Nat → Int32, XS w A' (xr x 15 g) S ∧ Fx w A0 A' ∧ ∀ y, y < S.1 → g y = nI (cp (bf S.1 S.2.1 herd rs' f h y))) A') 0 0) 0 0 A 3 [some (.ref (wb w)), some (.int (nI f)), some (.int (nI h)), some (.int (bI herd)), some (.int (nI i)), x5, x6, x7, x8, x9, x10] [] := by
  intro j
  induction j with
  | zero =>
    intro i A g x5 x6 x7 x8 x9 x10 hij hg hx hF
    refine r_iload 5 dX0_go_3 rfl lo4 ?_
    refine r_bipush 7 dX0_go_5 rfl bi_6 ?_
    first | refine r_icmp_geN 36 10 dX0_go_7 rfl (by decide) (by omega) (by omega) (fun hc7 => ?_) (fun hc7 => ?_) | refine r_icmp_ge 36 10 dX0_go_7 rfl (by decide) (fun hc7 => ?_) (fun hc7 => ?_)
    · refine r_iconst 37 dX0_go_36 rfl ic_0 ?_
      refine r_istore 39 dX0_go_37 rfl so4 rfl ?_
      refine r_iconst 40 dX0_go_39 rfl ic_0 ?_
      refine r_istore 42 dX0_go_40 rfl so5 rfl ?_
      refine lo_X0_go hok hJ hsm hi6 hh S.1 0 0 A g (fun y => if y = f then h else 2001) _ _ _ _ _ (by omega) (by decide) (cn_0 S.1 (fun x _ z => tb0 z)) ⟨by show (if f = f then h else 2001) ≤ h; rw [if_pos rfl]; exact Nat.le_refl _, fun y => by show (if y = f then h else 2001) ≤ 2001; split <;> omega, fun y hy => ?_, fun q _ y _ _ hd => (tb0 hd).elim, fun y z _ _ hd => (tb0 hd).elim⟩ hx hF (fun y hy => hg y (by omega))
      have hy' : (if y = f then h else 2001) ≤ 2000 := hy
      split at hy'
      · rename_i e
        refine ⟨0, e, ?_⟩
        show (if y = f then h else 2001) = h
        rw [if_pos e]
      · omega
    · exact absurd hc7 (by omega)
  | succ j ih =>
    intro i A g x5 x6 x7 x8 x9 x10 hij hg hx hF
    refine r_iload 5 dX0_go_3 rfl lo4 ?_
    refine r_bipush 7 dX0_go_5 rfl bi_6 ?_
    first | refine r_icmp_geN 36 10 dX0_go_7 rfl (by decide) (by omega) (by omega) (fun hc7 => ?_) (fun hc7 => ?_) | refine r_icmp_ge 36 10 dX0_go_7 rfl (by decide) (fun hc7 => ?_) (fun hc7 => ?_)
    · exact absurd hc7 (by omega)
    · refine r_aload_n 11 dX0_go_10 rfl rfl lo0 ?_
      refine r_get 14 dX0_go_11 rfl g_X0_40_0 hx.t lo6 ?_
      refine r_iload 16 dX0_go_14 rfl lo4 ?_
      refine r_iload 18 dX0_go_16 rfl lo4 ?_
      refine r_iload_n 19 dX0_go_18 rfl rfl lo1 ?_
      first | refine r_icmp_neN 26 22 dX0_go_19 rfl (by decide) (by omega) (by omega) (fun hc19 => ?_) (fun hc19 => ?_) | refine r_icmp_ne 26 22 dX0_go_19 rfl (by decide) (fun hc19 => ?_) (fun hc19 => ?_)
      · refine r_sipush 29 dX0_go_26 rfl si_2001 ?_
        refine rx_iast (kk := 15) (N := 6) 30 dX0_go_29 rfl hx hF (Or.inr (by decide)) _ rfl rfl (by omega) (by decide) (fun A hx hF => ?_)
        rw [bx_uu] at hx
        refine r_iinc 33 dX0_go_30 rfl lo4 inc1 so4 rfl ?_
        refine r_goto 3 dX0_go_33 (by decide) ?_
        refine ih (i + 1) A _ _ _ _ _ _ _ (by omega) (fun y hy => ?_) hx hF
        show upd g i _ y = _
        by_cases e : y = i
        · subst e
          rw [upd_s]
          first | rw [if_neg hc19] | rw [if_pos hc19]
        · rw [upd_n e]
          exact hg y (by omega)
      · refine r_iload_n 23 dX0_go_22 rfl rfl lo2 ?_
        refine r_goto 29 dX0_go_23 (by decide) ?_
        refine rx_iast (kk := 15) (N := 6) 30 dX0_go_29 rfl hx hF (Or.inr (by decide)) _ rfl rfl (by omega) (by decide) (fun A hx hF => ?_)
        rw [bx_uu] at hx
        refine r_iinc 33 dX0_go_30 rfl lo4 inc1 so4 rfl ?_
        refine r_goto 3 dX0_go_33 (by decide) ?_
        refine ih (i + 1) A _ _ _ _ _ _ _ (by omega) (fun y hy => ?_) hx hF
        show upd g i _ y = _
        by_cases e : y = i
        · subst e
          rw [upd_s]
          first | rw [if_neg hc19] | rw [if_pos hc19]
        · rw [upd_n e]
          exact hg y (by omega)

set_option maxHeartbeats 4000000 in
theorem ev_X0_go2 {w : WE} {A : Hp} {x : XT} {S : ST} {herd : Bool} {f h : Nat} {rs' : List Rd} (hx : XS w A x S) (hok : ∀ q ∈ rs', RdOk S.1 q) (hJ : ∀ r q, rs'[r]? = some q → StX x S.2.1 herd r q) (hsm : SimR S.2.2.1 rs') (hf : f < S.1) (hh : h ≤ 2000) : EvP w mX0_go 4 0 0 [.ref (wb w), .int (nI f), .int (nI h), .int (bI herd)] A none (fun A' => ∃ g : Nat → Int32, XS w A' (xr x 15 g) S ∧ Fx w A A' ∧ ∀ y, y < S.1 → g y = nI (cp (bf S.1 S.2.1 herd rs' f h y))) := by
  refine Ev.mk 7 [some (.ref (wb w)), some (.int (nI f)), some (.int (nI h)), some (.int (bI herd)), none, none, none, none, none, none, none] rfl plX0 (Nat.le_of_ble_eq_true rfl) ?_
  refine r_iconst 1 dX0_go_0 rfl ic_0 ?_
  refine r_istore 3 dX0_go_1 rfl so4 rfl ?_
  exact li_X0_go hok hJ hsm hx.le hf hh 6 0 A (x.2.1 15) _ _ _ _ _ _ (by omega) (fun y hy => absurd hy (by omega)) (xr_e hx 15) Fx.rf

theorem ev_X0_go {w : WE} {A : Hp} {x : XT} {S : ST} {herd : Bool} {f h : Nat} (hx : XS w A x S) (hJ : JX x S herd) (hf : f < S.1) (hh : h ≤ 2000) : EvP w mX0_go 4 0 0 [.ref (wb w), .int (nI f), .int (nI h), .int (bI herd)] A none (fun A' => ∃ g : Nat → Int32, XS w A' (xr x 15 g) S ∧ Fx w A A' ∧ ∀ y, y < S.1 → g y = nI (cp (bfS S herd f h y))) := ev_X0_go2 hx hx.ok.2.2.2.2 hJ ⟨rfl, fun i q hq => ⟨q, hq, rfl, rfl, rfl⟩⟩ hf hh
