/-! THE REFERENCE: copy -/
set_option maxRecDepth 100000
set_option maxHeartbeats 4000000 in
theorem lf_X1_copy {w : WE} {A0 : Hp} {m : MT} {S : ST} {k i o j n : Nat} {q p : Sh} (hS : MS m S) (hk : k < 4) (ho : o < 4) (hq : S.2.2.2.2.2 k = some q) (hp : S.2.2.2.2.2 o = some p) (hi : i + n ≤ q.2.1) (hj : j + n ≤ p.2.1) (hq6 : q.2.1 ≤ 60) (hp6 : p.2.1 ≤ 60) (hd : j ≤ i ∨ k ≠ o) : ∀ (y t : Nat) (A : Hp) (v6 v9 : Option Value), t + y = n → MR w A (va_up m.1 0 (nI 0), va_up m.2 3 (cpg (m.2 3) k i o j 0 t)) → Fm w A0 A → Rn w mX1_copy (rmX 3 0 0) (ZX w (QM w A0 (fun v m' => v = some (.int (nI n)) ∧ MS m' (sF (sH S o (some (p.1, p.2.1, cpf q.2.2 p.2.2 i j n))) (nI 0)))) 0 0) 0 0 A 166 [some (.ref (mb w)), some (.int (nI k)), some (.int (nI i)), some (.int (nI o)), some (.int (nI j)), some (.int (nI n)), v6, some (.int (nI 0)), some (.int (nI t)), v9] [] := by
  intro y
  induction y with
  | zero =>
    intro t A v6 v9 hty hm hF
    have ht : t = n := by omega
    subst ht
    refine r_iload 168 dX1_copy_166 rfl lo8 ?_
    refine r_iload 170 dX1_copy_168 rfl lo5 ?_
    first | refine r_icmp_geN 227 173 dX1_copy_170 rfl (by decide) (by omega) (by omega) (fun hc170 => ?_) (fun hc170 => ?_) | refine r_icmp_ge 227 173 dX1_copy_170 rfl (by decide) (fun hc170 => ?_) (fun hc170 => ?_)
    · refine r_iload 229 dX1_copy_227 rfl lo5 ?_
      exact r_iret dX1_copy_229 rfl (Nat.le_refl _) (Nat.le_refl _) (qm hm hF ⟨rfl, (hS.fault (nI 0)).arr (m' := (va_up m.1 0 (nI 0), _)) rfl (fun a h1 h2 => by simp [va_up]; omega) (hS.sh.cp hk ho hq hp hi hj rfl rfl rfl)⟩)
    · exact absurd hc170 (by omega)
  | succ y ih =>
    intro t A v6 v9 hty hm hF
    refine r_iload 168 dX1_copy_166 rfl lo8 ?_
    refine r_iload 170 dX1_copy_168 rfl lo5 ?_
    first | refine r_icmp_geN 227 173 dX1_copy_170 rfl (by decide) (by omega) (by omega) (fun hc170 => ?_) (fun hc170 => ?_) | refine r_icmp_ge 227 173 dX1_copy_170 rfl (by decide) (fun hc170 => ?_) (fun hc170 => ?_)
    · exact absurd hc170 (by omega)
    · refine r_iload 175 dX1_copy_173 rfl lo7 ?_
      refine r_if_eq 188 178 dX1_copy_175 rfl (by decide) (fun hc175 => ?_) (fun hc175 => ?_)
      · refine r_iload 190 dX1_copy_188 rfl lo8 ?_
        refine r_istore 192 dX1_copy_190 rfl so9 rfl ?_
        refine r_aload_n 193 dX1_copy_192 rfl rfl lo0 ?_
        refine r_get 196 dX1_copy_193 rfl g_X1_16_1 hm.t lo4 ?_
        refine r_bipush 198 dX1_copy_196 rfl bi_60 ?_
        refine r_iload_n 199 dX1_copy_198 rfl rfl lo3 ?_
        first | refine r_imulN 200 dX1_copy_199 rfl ?_ | refine r_imul 200 dX1_copy_199 rfl ?_
        refine r_iload 202 dX1_copy_200 rfl lo4 ?_
        first | refine r_iaddN 203 dX1_copy_202 rfl ?_ | refine r_iadd 203 dX1_copy_202 rfl ?_
        refine r_iload 205 dX1_copy_203 rfl lo9 ?_
        first | refine r_iaddN 206 dX1_copy_205 rfl ?_ | refine r_iadd 206 dX1_copy_205 rfl ?_
        refine r_aload_n 207 dX1_copy_206 rfl rfl lo0 ?_
        refine r_get 210 dX1_copy_207 rfl g_X1_16_1 hm.t lo4 ?_
        refine r_bipush 212 dX1_copy_210 rfl bi_60 ?_
        refine r_iload_n 213 dX1_copy_212 rfl rfl lo1 ?_
        first | refine r_imulN 214 dX1_copy_213 rfl ?_ | refine r_imul 214 dX1_copy_213 rfl ?_
        refine r_iload_n 215 dX1_copy_214 rfl rfl lo2 ?_
        first | refine r_iaddN 216 dX1_copy_215 rfl ?_ | refine r_iadd 216 dX1_copy_215 rfl ?_
        refine r_iload 218 dX1_copy_216 rfl lo9 ?_
        first | refine r_iaddN 219 dX1_copy_218 rfl ?_ | refine r_iadd 219 dX1_copy_218 rfl ?_
        refine r_iald 220 dX1_copy_219 rfl hm.a3 _ rfl (by omega) (by decide) ?_
        refine rm_iast (N := 240) 221 dX1_copy_220 rfl hm hF (by decide) (by decide) _ rfl rfl (by omega) (by decide) (fun A hm hF => ?_)
        rw [bx_uu] at hm
        replace hm : MR w A (va_up m.1 0 (nI 0), va_up m.2 3 (upd (cpg (m.2 3) k i o j 0 t) (60 * o + j + t) (cpg (m.2 3) k i o j 0 t (60 * k + i + t)))) := hm
        rw [cpg_f (n := n) (by omega) hd (by omega) (by omega)] at hm
        refine r_iinc 224 dX1_copy_221 rfl lo8 inc1 so8 rfl ?_
        refine r_goto 166 dX1_copy_224 (by decide) ?_
        exact ih (t + 1) A _ _ (by omega) hm hF
      · exact absurd rfl hc175

set_option maxHeartbeats 4000000 in
theorem lb_X1_copy {w : WE} {A0 : Hp} {m : MT} {S : ST} {k i o j n : Nat} {q p : Sh} (hS : MS m S) (hk : k < 4) (ho : o < 4) (hq : S.2.2.2.2.2 k = some q) (hp : S.2.2.2.2.2 o = some p) (hi : i + n ≤ q.2.1) (hj : j + n ≤ p.2.1) (hq6 : q.2.1 ≤ 60) (hp6 : p.2.1 ≤ 60) (hd : i < j) : ∀ (y t : Nat) (A : Hp) (v6 v9 : Option Value), t + y = n → MR w A (va_up m.1 0 (nI 0), va_up m.2 3 (cpg (m.2 3) k i o j (n - t) n)) → Fm w A0 A → Rn w mX1_copy (rmX 3 0 0) (ZX w (QM w A0 (fun v m' => v = some (.int (nI n)) ∧ MS m' (sF (sH S o (some (p.1, p.2.1, cpf q.2.2 p.2.2 i j n))) (nI 0)))) 0 0) 0 0 A 166 [some (.ref (mb w)), some (.int (nI k)), some (.int (nI i)), some (.int (nI o)), some (.int (nI j)), some (.int (nI n)), v6, some (.int (nI 1)), some (.int (nI t)), v9] [] := by
  intro y
  induction y with
  | zero =>
    intro t A v6 v9 hty hm hF
    have ht : t = n := by omega
    subst ht
    refine r_iload 168 dX1_copy_166 rfl lo8 ?_
    refine r_iload 170 dX1_copy_168 rfl lo5 ?_
    first | refine r_icmp_geN 227 173 dX1_copy_170 rfl (by decide) (by omega) (by omega) (fun hc170 => ?_) (fun hc170 => ?_) | refine r_icmp_ge 227 173 dX1_copy_170 rfl (by decide) (fun hc170 => ?_) (fun hc170 => ?_)
    · refine r_iload 229 dX1_copy_227 rfl lo5 ?_
      exact r_iret dX1_copy_229 rfl (Nat.le_refl _) (Nat.le_refl _) (qm hm hF ⟨rfl, (hS.fault (nI 0)).arr (m' := (va_up m.1 0 (nI 0), _)) rfl (fun a h1 h2 => by simp [va_up]; omega) (hS.sh.cp hk ho hq hp hi hj rfl rfl (by show cpg _ _ _ _ _ _ _ = _; rw [Nat.sub_self]))⟩)
    · exact absurd hc170 (by omega)
  | succ y ih =>
    intro t A v6 v9 hty hm hF
    refine r_iload 168 dX1_copy_166 rfl lo8 ?_
    refine r_iload 170 dX1_copy_168 rfl lo5 ?_
    first | refine r_icmp_geN 227 173 dX1_copy_170 rfl (by decide) (by omega) (by omega) (fun hc170 => ?_) (fun hc170 => ?_) | refine r_icmp_ge 227 173 dX1_copy_170 rfl (by decide) (fun hc170 => ?_) (fun hc170 => ?_)
    · exact absurd hc170 (by omega)
    · refine r_iload 175 dX1_copy_173 rfl lo7 ?_
      refine r_if_eq 188 178 dX1_copy_175 rfl (by decide) (fun hc175 => ?_) (fun hc175 => ?_)
      · exact absurd hc175 (by decide)
      · refine r_iload 180 dX1_copy_178 rfl lo5 ?_
        refine r_iconst 181 dX1_copy_180 rfl ic_1 ?_
        first | refine r_isubN 182 dX1_copy_181 rfl (by omega) ?_ | refine r_isub 182 dX1_copy_181 rfl ?_
        refine r_iload 184 dX1_copy_182 rfl lo8 ?_
        first | refine r_isubN 185 dX1_copy_184 rfl (by omega) ?_ | refine r_isub 185 dX1_copy_184 rfl ?_
        refine r_goto 190 dX1_copy_185 (by decide) ?_
        refine r_istore 192 dX1_copy_190 rfl so9 rfl ?_
        refine r_aload_n 193 dX1_copy_192 rfl rfl lo0 ?_
        refine r_get 196 dX1_copy_193 rfl g_X1_16_1 hm.t lo4 ?_
        refine r_bipush 198 dX1_copy_196 rfl bi_60 ?_
        refine r_iload_n 199 dX1_copy_198 rfl rfl lo3 ?_
        first | refine r_imulN 200 dX1_copy_199 rfl ?_ | refine r_imul 200 dX1_copy_199 rfl ?_
        refine r_iload 202 dX1_copy_200 rfl lo4 ?_
        first | refine r_iaddN 203 dX1_copy_202 rfl ?_ | refine r_iadd 203 dX1_copy_202 rfl ?_
        refine r_iload 205 dX1_copy_203 rfl lo9 ?_
        first | refine r_iaddN 206 dX1_copy_205 rfl ?_ | refine r_iadd 206 dX1_copy_205 rfl ?_
        refine r_aload_n 207 dX1_copy_206 rfl rfl lo0 ?_
        refine r_get 210 dX1_copy_207 rfl g_X1_16_1 hm.t lo4 ?_
        refine r_bipush 212 dX1_copy_210 rfl bi_60 ?_
        refine r_iload_n 213 dX1_copy_212 rfl rfl lo1 ?_
        first | refine r_imulN 214 dX1_copy_213 rfl ?_ | refine r_imul 214 dX1_copy_213 rfl ?_
        refine r_iload_n 215 dX1_copy_214 rfl rfl lo2 ?_
        first | refine r_iaddN 216 dX1_copy_215 rfl ?_ | refine r_iadd 216 dX1_copy_215 rfl ?_
        refine r_iload 218 dX1_copy_216 rfl lo9 ?_
        first | refine r_iaddN 219 dX1_copy_218 rfl ?_ | refine r_iadd 219 dX1_copy_218 rfl ?_
        refine r_iald 220 dX1_copy_219 rfl hm.a3 _ rfl (by omega) (by decide) ?_
        refine rm_iast (N := 240) 221 dX1_copy_220 rfl hm hF (by decide) (by decide) _ rfl rfl (by omega) (by decide) (fun A hm hF => ?_)
        rw [bx_uu] at hm
        replace hm : MR w A (va_up m.1 0 (nI 0), va_up m.2 3 (upd (cpg (m.2 3) k i o j (n - t) n) (60 * o + j + (n - 1 - t)) (cpg (m.2 3) k i o j (n - t) n (60 * k + i + (n - 1 - t))))) := hm
        rw [cpg_b (by omega) hd (by omega) (by omega)] at hm
        refine r_iinc 224 dX1_copy_221 rfl lo8 inc1 so8 rfl ?_
        refine r_goto 166 dX1_copy_224 (by decide) ?_
        exact ih (t + 1) A _ _ (by omega) hm hF

set_option maxHeartbeats 4000000 in
theorem ev_X1_copy {w : WE} {A : Hp} {m : MT} {S : ST} {k i o j n : Int32} (hm : MR w A m) (hS : MS m S) : Ev w mX1_copy 3 0 0 [.ref (mb w), .int k, .int i, .int o, .int j, .int n] A (QM w A (fun r m' => r = some (.int (sp_copy S k i o j n).1) ∧ MS m' (sp_copy S k i o j n).2)) := by
  refine Ev.mk 4 [some (.ref (mb w)), some (.int k), some (.int i), some (.int o), some (.int j), some (.int n), none, none, none, none] rfl plX1 (Nat.le_of_ble_eq_true rfl) ?_
  have hF : Fm w A A := Fm.rf
  refine r_aload_n 1 dX1_copy_0 rfl rfl lo0 ?_
  refine r_iconst 2 dX1_copy_1 rfl ic_0 ?_
  refine rm_put 5 dX1_copy_2 rfl hm hF g_X1_76_1 fw_1_0 rfl (by decide) (fun A hm hF => ?_)
  refine r_iload_n 6 dX1_copy_5 rfl rfl lo1 ?_
  refine r_cS1 9 dX1_copy_6 rfl sS_X1_96 (by rfl) ev_X1_isSheet ?_
  refine r_if_eqB 19 12 dX1_copy_9 rfl (by decide) (fun hc9 => ?_) (fun hc9 => ?_)
  · refine r_iconst 20 dX1_copy_19 rfl ic_m1 ?_
    exact r_iret dX1_copy_20 rfl (Nat.le_refl _) (Nat.le_refl _) (qm hm hF (by have e : sp_copy S k i o j n = (-1, sF S (nI 0)) := by { unfold sp_copy; rw [if_pos (by first | exact Or.inl (by rw [hc9]; decide) | exact Or.inr (by rw [hc16]; decide))] }; rw [e]; exact ⟨rfl, hS.fault (nI 0)⟩))
  · refine r_iload_n 13 dX1_copy_12 rfl rfl lo3 ?_
    refine r_cS1 16 dX1_copy_13 rfl sS_X1_96 (by rfl) ev_X1_isSheet ?_
    refine r_if_neB 21 19 dX1_copy_16 rfl (by decide) (fun hc16 => ?_) (fun hc16 => ?_)
    · obtain ⟨k, hk, rfl⟩ := sheet_ok hc9
      obtain ⟨o, ho, rfl⟩ := sheet_ok hc16
      obtain ⟨sn, ss⟩ := hS.sh k hk
      obtain ⟨tn, ts⟩ := hS.sh o ho
      rcases hq : S.2.2.2.2.2 k with _ | q
      · have h1 := sn hq
        refine r_aload_n 22 dX1_copy_21 rfl rfl lo0 ?_
        refine r_get 25 dX1_copy_22 rfl g_X1_9_1 hm.t lo2 ?_
        refine r_iload_n 26 dX1_copy_25 rfl rfl lo1 ?_
        refine r_ialdv 27 dX1_copy_26 rfl hm.a1 _ rfl h1 (by omega) (by decide) ?_
        refine r_bipush 29 dX1_copy_27 rfl bi_m9 ?_
        refine r_icmp_eq 43 32 dX1_copy_29 rfl (by decide) (fun hc29 => ?_) (fun hc29 => ?_)
        · refine r_aload_n 44 dX1_copy_43 rfl rfl lo0 ?_
          refine r_iconst 45 dX1_copy_44 rfl ic_1 ?_
          refine rm_i1 48 dX1_copy_45 rfl sV_X1_107_1 hm hF (by rfl) (ev_X1_fails hm) (fun A m' hP hm hF => ?_)
          subst hP
          exact r_iret dX1_copy_48 rfl (Nat.le_refl _) (Nat.le_refl _) (qm hm hF (by rw [sp_copy_1 hk ho (Or.inl hq)]; exact ⟨rfl, hS.fault (nI 1)⟩))
        · exact absurd rfl hc29
      · obtain ⟨h1, l1, h2, l2, h3⟩ := ss q hq
        rcases hp : S.2.2.2.2.2 o with _ | p
        · have g1 := tn hp
          refine r_aload_n 22 dX1_copy_21 rfl rfl lo0 ?_
          refine r_get 25 dX1_copy_22 rfl g_X1_9_1 hm.t lo2 ?_
          refine r_iload_n 26 dX1_copy_25 rfl rfl lo1 ?_
          refine r_ialdv 27 dX1_copy_26 rfl hm.a1 _ rfl h1 (by omega) (by decide) ?_
          refine r_bipush 29 dX1_copy_27 rfl bi_m9 ?_
          refine r_icmp_eq 43 32 dX1_copy_29 rfl (by decide) (fun hc29 => ?_) (fun hc29 => ?_)
          · exact absurd hc29 (nI_m9 (by omega))
          · refine r_aload_n 33 dX1_copy_32 rfl rfl lo0 ?_
            refine r_get 36 dX1_copy_33 rfl g_X1_9_1 hm.t lo2 ?_
            refine r_iload_n 37 dX1_copy_36 rfl rfl lo3 ?_
            refine r_ialdv 38 dX1_copy_37 rfl hm.a1 _ rfl g1 (by omega) (by decide) ?_
            refine r_bipush 40 dX1_copy_38 rfl bi_m9 ?_
            refine r_icmp_ne 49 43 dX1_copy_40 rfl (by decide) (fun hc40 => ?_) (fun hc40 => ?_)
            · exact absurd rfl hc40
            · refine r_aload_n 44 dX1_copy_43 rfl rfl lo0 ?_
              refine r_iconst 45 dX1_copy_44 rfl ic_1 ?_
              refine rm_i1 48 dX1_copy_45 rfl sV_X1_107_1 hm hF (by rfl) (ev_X1_fails hm) (fun A m' hP hm hF => ?_)
              subst hP
              exact r_iret dX1_copy_48 rfl (Nat.le_refl _) (Nat.le_refl _) (qm hm hF (by rw [sp_copy_1 hk ho (Or.inr hp)]; exact ⟨rfl, hS.fault (nI 1)⟩))
        · obtain ⟨g1, k1, g2, k2, g3⟩ := ts p hp
          refine r_aload_n 22 dX1_copy_21 rfl rfl lo0 ?_
          refine r_get 25 dX1_copy_22 rfl g_X1_9_1 hm.t lo2 ?_
          refine r_iload_n 26 dX1_copy_25 rfl rfl lo1 ?_
          refine r_ialdv 27 dX1_copy_26 rfl hm.a1 _ rfl h1 (by omega) (by decide) ?_
          refine r_bipush 29 dX1_copy_27 rfl bi_m9 ?_
          refine r_icmp_eq 43 32 dX1_copy_29 rfl (by decide) (fun hc29 => ?_) (fun hc29 => ?_)
          · exact absurd hc29 (nI_m9 (by omega))
          · refine r_aload_n 33 dX1_copy_32 rfl rfl lo0 ?_
            refine r_get 36 dX1_copy_33 rfl g_X1_9_1 hm.t lo2 ?_
            refine r_iload_n 37 dX1_copy_36 rfl rfl lo3 ?_
            refine r_ialdv 38 dX1_copy_37 rfl hm.a1 _ rfl g1 (by omega) (by decide) ?_
            refine r_bipush 40 dX1_copy_38 rfl bi_m9 ?_
            refine r_icmp_ne 49 43 dX1_copy_40 rfl (by decide) (fun hc40 => ?_) (fun hc40 => ?_)
            · refine r_aload_n 50 dX1_copy_49 rfl rfl lo0 ?_
              refine r_get 53 dX1_copy_50 rfl g_X1_9_1 hm.t lo2 ?_
              refine r_iload_n 54 dX1_copy_53 rfl rfl lo1 ?_
              refine r_ialdv 55 dX1_copy_54 rfl hm.a1 _ rfl h1 (by omega) (by decide) ?_
              refine r_aload_n 56 dX1_copy_55 rfl rfl lo0 ?_
              refine r_get 59 dX1_copy_56 rfl g_X1_9_1 hm.t lo2 ?_
              refine r_iload_n 60 dX1_copy_59 rfl rfl lo3 ?_
              refine r_ialdv 61 dX1_copy_60 rfl hm.a1 _ rfl g1 (by omega) (by decide) ?_
              first | refine r_icmp_eqN 70 64 dX1_copy_61 rfl (by decide) (by omega) (by omega) (fun hc61 => ?_) (fun hc61 => ?_) | refine r_icmp_eq 70 64 dX1_copy_61 rfl (by decide) (fun hc61 => ?_) (fun hc61 => ?_)
              · refine r_iload_n 71 dX1_copy_70 rfl rfl lo2 ?_
                refine r_if_lt 109 74 dX1_copy_71 rfl (by decide) (fun hc71 => ?_) (fun hc71 => ?_)
                · refine r_iconst 110 dX1_copy_109 rfl ic_0 ?_
                  refine r_istore 112 dX1_copy_110 rfl so6 rfl ?_
                  refine r_iload 114 dX1_copy_112 rfl lo6 ?_
                  first | refine r_if_eqN 144 117 dX1_copy_114 rfl (by decide) (by omega) (fun hc114 => ?_) (fun hc114 => ?_) | refine r_if_eq 144 117 dX1_copy_114 rfl (by decide) (fun hc114 => ?_) (fun hc114 => ?_)
                  · refine r_aload_n 145 dX1_copy_144 rfl rfl lo0 ?_
                    refine r_iconst 146 dX1_copy_145 rfl ic_3 ?_
                    refine rm_i1 149 dX1_copy_146 rfl sV_X1_107_1 hm hF (by rfl) (ev_X1_fails hm) (fun A m' hP hm hF => ?_)
                    subst hP
                    exact r_iret dX1_copy_149 rfl (Nat.le_refl _) (Nat.le_refl _) (qm hm hF (by rw [sp_copy_2 hk ho hq hp, if_neg (fun z => z hc61), if_neg (fun z => cp_bad z l2 k2 (by first | exact absurd hc114 (by decide) | exact absurd rfl hc114 | exact Or.inl hc71 | exact Or.inr (Or.inl hc76) | exact Or.inr (Or.inr (Or.inl hc81)) | exact Or.inr (Or.inr (Or.inr (Or.inl hc91))) | exact Or.inr (Or.inr (Or.inr (Or.inr (Or.inl hc102)))) | exact Or.inr (Or.inr (Or.inr (Or.inr (Or.inr (Or.inl hc127))))) | exact Or.inr (Or.inr (Or.inr (Or.inr (Or.inr (Or.inr hc141)))))))]; exact ⟨rfl, hS.fault (nI 3)⟩))
                  · refine r_iload 119 dX1_copy_117 rfl lo5 ?_
                    refine r_aload_n 120 dX1_copy_119 rfl rfl lo0 ?_
                    refine r_get 123 dX1_copy_120 rfl g_X1_13_1 hm.t lo3 ?_
                    refine r_iload_n 124 dX1_copy_123 rfl rfl lo1 ?_
                    refine r_ialdv 125 dX1_copy_124 rfl hm.a2 _ rfl h2 (by omega) (by decide) ?_
                    refine r_iload_n 126 dX1_copy_125 rfl rfl lo2 ?_
                    refine r_isub 127 dX1_copy_126 rfl ?_
                    refine r_icmp_gt 144 130 dX1_copy_127 rfl (by decide) (fun hc127 => ?_) (fun hc127 => ?_)
                    · refine r_aload_n 145 dX1_copy_144 rfl rfl lo0 ?_
                      refine r_iconst 146 dX1_copy_145 rfl ic_3 ?_
                      refine rm_i1 149 dX1_copy_146 rfl sV_X1_107_1 hm hF (by rfl) (ev_X1_fails hm) (fun A m' hP hm hF => ?_)
                      subst hP
                      exact r_iret dX1_copy_149 rfl (Nat.le_refl _) (Nat.le_refl _) (qm hm hF (by rw [sp_copy_2 hk ho hq hp, if_neg (fun z => z hc61), if_neg (fun z => cp_bad z l2 k2 (by first | exact absurd hc114 (by decide) | exact absurd rfl hc114 | exact Or.inl hc71 | exact Or.inr (Or.inl hc76) | exact Or.inr (Or.inr (Or.inl hc81)) | exact Or.inr (Or.inr (Or.inr (Or.inl hc91))) | exact Or.inr (Or.inr (Or.inr (Or.inr (Or.inl hc102)))) | exact Or.inr (Or.inr (Or.inr (Or.inr (Or.inr (Or.inl hc127))))) | exact Or.inr (Or.inr (Or.inr (Or.inr (Or.inr (Or.inr hc141)))))))]; exact ⟨rfl, hS.fault (nI 3)⟩))
                    · refine r_iload 132 dX1_copy_130 rfl lo5 ?_
                      refine r_aload_n 133 dX1_copy_132 rfl rfl lo0 ?_
                      refine r_get 136 dX1_copy_133 rfl g_X1_13_1 hm.t lo3 ?_
                      refine r_iload_n 137 dX1_copy_136 rfl rfl lo3 ?_
                      refine r_ialdv 138 dX1_copy_137 rfl hm.a2 _ rfl g2 (by omega) (by decide) ?_
                      refine r_iload 140 dX1_copy_138 rfl lo4 ?_
                      refine r_isub 141 dX1_copy_140 rfl ?_
                      refine r_icmp_le 150 144 dX1_copy_141 rfl (by decide) (fun hc141 => ?_) (fun hc141 => ?_)
                      · have z : cpOk q.2.1 p.2.1 i j n = true := by first | exact absurd rfl hc114 | exact cp_good l2 k2 hc71 hc76 hc81 hc91 hc102 hc127 hc141
                        obtain ⟨z1, z2, z3, z4, z5, z6, z7⟩ := cpOk_t.mp z
                        obtain ⟨i, i1, rfl, i3⟩ := i_nat z1
                        obtain ⟨j, j1, rfl, j3⟩ := i_nat z2
                        obtain ⟨n, n1, rfl, n3⟩ := i_nat z3
                        have e : sp_copy S (nI k) (nI i) (nI o) (nI j) (nI n) = (nI n, sF (sH S o (some (p.1, p.2.1, cpf q.2.2 p.2.2 i j n))) (nI 0)) := by rw [sp_copy_2 hk ho hq hp, if_neg (fun z => z hc61), if_pos z, nI_nat i1, nI_nat j1, nI_nat n1]
                        refine r_iload_n 151 dX1_copy_150 rfl rfl lo2 ?_
                        refine r_iload 153 dX1_copy_151 rfl lo4 ?_
                        first | refine r_icmp_geN 160 156 dX1_copy_153 rfl (by decide) (by omega) (by omega) (fun hc153 => ?_) (fun hc153 => ?_) | refine r_icmp_ge 160 156 dX1_copy_153 rfl (by decide) (fun hc153 => ?_) (fun hc153 => ?_)
                        · refine r_iconst 161 dX1_copy_160 rfl ic_0 ?_
                          refine r_istore 163 dX1_copy_161 rfl so7 rfl ?_
                          refine r_iconst 164 dX1_copy_163 rfl ic_0 ?_
                          refine r_istore 166 dX1_copy_164 rfl so8 rfl ?_
                          rw [e]
                          first | exact lf_X1_copy hS hk ho hq hp (by omega) (by omega) l2 k2 (Or.inl (by omega)) n 0 A _ _ (by omega) (by rw [cpg_0]; exact hm.eta 3) hF | exact lb_X1_copy hS hk ho hq hp (by omega) (by omega) l2 k2 (by omega) n 0 A _ _ (by omega) (by rw [Nat.sub_zero, cpg_0]; exact hm.eta 3) hF
                        · refine r_iconst 157 dX1_copy_156 rfl ic_1 ?_
                          refine r_goto 161 dX1_copy_157 (by decide) ?_
                          refine r_istore 163 dX1_copy_161 rfl so7 rfl ?_
                          refine r_iconst 164 dX1_copy_163 rfl ic_0 ?_
                          refine r_istore 166 dX1_copy_164 rfl so8 rfl ?_
                          rw [e]
                          first | exact lf_X1_copy hS hk ho hq hp (by omega) (by omega) l2 k2 (Or.inl (by omega)) n 0 A _ _ (by omega) (by rw [cpg_0]; exact hm.eta 3) hF | exact lb_X1_copy hS hk ho hq hp (by omega) (by omega) l2 k2 (by omega) n 0 A _ _ (by omega) (by rw [Nat.sub_zero, cpg_0]; exact hm.eta 3) hF
                      · refine r_aload_n 145 dX1_copy_144 rfl rfl lo0 ?_
                        refine r_iconst 146 dX1_copy_145 rfl ic_3 ?_
                        refine rm_i1 149 dX1_copy_146 rfl sV_X1_107_1 hm hF (by rfl) (ev_X1_fails hm) (fun A m' hP hm hF => ?_)
                        subst hP
                        exact r_iret dX1_copy_149 rfl (Nat.le_refl _) (Nat.le_refl _) (qm hm hF (by rw [sp_copy_2 hk ho hq hp, if_neg (fun z => z hc61), if_neg (fun z => cp_bad z l2 k2 (by first | exact absurd hc114 (by decide) | exact absurd rfl hc114 | exact Or.inl hc71 | exact Or.inr (Or.inl hc76) | exact Or.inr (Or.inr (Or.inl hc81)) | exact Or.inr (Or.inr (Or.inr (Or.inl hc91))) | exact Or.inr (Or.inr (Or.inr (Or.inr (Or.inl hc102)))) | exact Or.inr (Or.inr (Or.inr (Or.inr (Or.inr (Or.inl hc127))))) | exact Or.inr (Or.inr (Or.inr (Or.inr (Or.inr (Or.inr hc141)))))))]; exact ⟨rfl, hS.fault (nI 3)⟩))
                · refine r_iload 76 dX1_copy_74 rfl lo4 ?_
                  refine r_if_lt 109 79 dX1_copy_76 rfl (by decide) (fun hc76 => ?_) (fun hc76 => ?_)
                  · refine r_iconst 110 dX1_copy_109 rfl ic_0 ?_
                    refine r_istore 112 dX1_copy_110 rfl so6 rfl ?_
                    refine r_iload 114 dX1_copy_112 rfl lo6 ?_
                    first | refine r_if_eqN 144 117 dX1_copy_114 rfl (by decide) (by omega) (fun hc114 => ?_) (fun hc114 => ?_) | refine r_if_eq 144 117 dX1_copy_114 rfl (by decide) (fun hc114 => ?_) (fun hc114 => ?_)
                    · refine r_aload_n 145 dX1_copy_144 rfl rfl lo0 ?_
                      refine r_iconst 146 dX1_copy_145 rfl ic_3 ?_
                      refine rm_i1 149 dX1_copy_146 rfl sV_X1_107_1 hm hF (by rfl) (ev_X1_fails hm) (fun A m' hP hm hF => ?_)
                      subst hP
                      exact r_iret dX1_copy_149 rfl (Nat.le_refl _) (Nat.le_refl _) (qm hm hF (by rw [sp_copy_2 hk ho hq hp, if_neg (fun z => z hc61), if_neg (fun z => cp_bad z l2 k2 (by first | exact absurd hc114 (by decide) | exact absurd rfl hc114 | exact Or.inl hc71 | exact Or.inr (Or.inl hc76) | exact Or.inr (Or.inr (Or.inl hc81)) | exact Or.inr (Or.inr (Or.inr (Or.inl hc91))) | exact Or.inr (Or.inr (Or.inr (Or.inr (Or.inl hc102)))) | exact Or.inr (Or.inr (Or.inr (Or.inr (Or.inr (Or.inl hc127))))) | exact Or.inr (Or.inr (Or.inr (Or.inr (Or.inr (Or.inr hc141)))))))]; exact ⟨rfl, hS.fault (nI 3)⟩))
                    · refine r_iload 119 dX1_copy_117 rfl lo5 ?_
                      refine r_aload_n 120 dX1_copy_119 rfl rfl lo0 ?_
                      refine r_get 123 dX1_copy_120 rfl g_X1_13_1 hm.t lo3 ?_
                      refine r_iload_n 124 dX1_copy_123 rfl rfl lo1 ?_
                      refine r_ialdv 125 dX1_copy_124 rfl hm.a2 _ rfl h2 (by omega) (by decide) ?_
                      refine r_iload_n 126 dX1_copy_125 rfl rfl lo2 ?_
                      refine r_isub 127 dX1_copy_126 rfl ?_
                      refine r_icmp_gt 144 130 dX1_copy_127 rfl (by decide) (fun hc127 => ?_) (fun hc127 => ?_)
                      · refine r_aload_n 145 dX1_copy_144 rfl rfl lo0 ?_
                        refine r_iconst 146 dX1_copy_145 rfl ic_3 ?_
                        refine rm_i1 149 dX1_copy_146 rfl sV_X1_107_1 hm hF (by rfl) (ev_X1_fails hm) (fun A m' hP hm hF => ?_)
                        subst hP
                        exact r_iret dX1_copy_149 rfl (Nat.le_refl _) (Nat.le_refl _) (qm hm hF (by rw [sp_copy_2 hk ho hq hp, if_neg (fun z => z hc61), if_neg (fun z => cp_bad z l2 k2 (by first | exact absurd hc114 (by decide) | exact absurd rfl hc114 | exact Or.inl hc71 | exact Or.inr (Or.inl hc76) | exact Or.inr (Or.inr (Or.inl hc81)) | exact Or.inr (Or.inr (Or.inr (Or.inl hc91))) | exact Or.inr (Or.inr (Or.inr (Or.inr (Or.inl hc102)))) | exact Or.inr (Or.inr (Or.inr (Or.inr (Or.inr (Or.inl hc127))))) | exact Or.inr (Or.inr (Or.inr (Or.inr (Or.inr (Or.inr hc141)))))))]; exact ⟨rfl, hS.fault (nI 3)⟩))
                      · refine r_iload 132 dX1_copy_130 rfl lo5 ?_
                        refine r_aload_n 133 dX1_copy_132 rfl rfl lo0 ?_
                        refine r_get 136 dX1_copy_133 rfl g_X1_13_1 hm.t lo3 ?_
                        refine r_iload_n 137 dX1_copy_136 rfl rfl lo3 ?_
                        refine r_ialdv 138 dX1_copy_137 rfl hm.a2 _ rfl g2 (by omega) (by decide) ?_
                        refine r_iload 140 dX1_copy_138 rfl lo4 ?_
                        refine r_isub 141 dX1_copy_140 rfl ?_
                        refine r_icmp_le 150 144 dX1_copy_141 rfl (by decide) (fun hc141 => ?_) (fun hc141 => ?_)
                        · have z : cpOk q.2.1 p.2.1 i j n = true := by first | exact absurd rfl hc114 | exact cp_good l2 k2 hc71 hc76 hc81 hc91 hc102 hc127 hc141
                          obtain ⟨z1, z2, z3, z4, z5, z6, z7⟩ := cpOk_t.mp z
                          obtain ⟨i, i1, rfl, i3⟩ := i_nat z1
                          obtain ⟨j, j1, rfl, j3⟩ := i_nat z2
                          obtain ⟨n, n1, rfl, n3⟩ := i_nat z3
                          have e : sp_copy S (nI k) (nI i) (nI o) (nI j) (nI n) = (nI n, sF (sH S o (some (p.1, p.2.1, cpf q.2.2 p.2.2 i j n))) (nI 0)) := by rw [sp_copy_2 hk ho hq hp, if_neg (fun z => z hc61), if_pos z, nI_nat i1, nI_nat j1, nI_nat n1]
                          refine r_iload_n 151 dX1_copy_150 rfl rfl lo2 ?_
                          refine r_iload 153 dX1_copy_151 rfl lo4 ?_
                          first | refine r_icmp_geN 160 156 dX1_copy_153 rfl (by decide) (by omega) (by omega) (fun hc153 => ?_) (fun hc153 => ?_) | refine r_icmp_ge 160 156 dX1_copy_153 rfl (by decide) (fun hc153 => ?_) (fun hc153 => ?_)
                          · refine r_iconst 161 dX1_copy_160 rfl ic_0 ?_
                            refine r_istore 163 dX1_copy_161 rfl so7 rfl ?_
                            refine r_iconst 164 dX1_copy_163 rfl ic_0 ?_
                            refine r_istore 166 dX1_copy_164 rfl so8 rfl ?_
                            rw [e]
                            first | exact lf_X1_copy hS hk ho hq hp (by omega) (by omega) l2 k2 (Or.inl (by omega)) n 0 A _ _ (by omega) (by rw [cpg_0]; exact hm.eta 3) hF | exact lb_X1_copy hS hk ho hq hp (by omega) (by omega) l2 k2 (by omega) n 0 A _ _ (by omega) (by rw [Nat.sub_zero, cpg_0]; exact hm.eta 3) hF
                          · refine r_iconst 157 dX1_copy_156 rfl ic_1 ?_
                            refine r_goto 161 dX1_copy_157 (by decide) ?_
                            refine r_istore 163 dX1_copy_161 rfl so7 rfl ?_
                            refine r_iconst 164 dX1_copy_163 rfl ic_0 ?_
                            refine r_istore 166 dX1_copy_164 rfl so8 rfl ?_
                            rw [e]
                            first | exact lf_X1_copy hS hk ho hq hp (by omega) (by omega) l2 k2 (Or.inl (by omega)) n 0 A _ _ (by omega) (by rw [cpg_0]; exact hm.eta 3) hF | exact lb_X1_copy hS hk ho hq hp (by omega) (by omega) l2 k2 (by omega) n 0 A _ _ (by omega) (by rw [Nat.sub_zero, cpg_0]; exact hm.eta 3) hF
                        · refine r_aload_n 145 dX1_copy_144 rfl rfl lo0 ?_
                          refine r_iconst 146 dX1_copy_145 rfl ic_3 ?_
                          refine rm_i1 149 dX1_copy_146 rfl sV_X1_107_1 hm hF (by rfl) (ev_X1_fails hm) (fun A m' hP hm hF => ?_)
                          subst hP
                          exact r_iret dX1_copy_149 rfl (Nat.le_refl _) (Nat.le_refl _) (qm hm hF (by rw [sp_copy_2 hk ho hq hp, if_neg (fun z => z hc61), if_neg (fun z => cp_bad z l2 k2 (by first | exact absurd hc114 (by decide) | exact absurd rfl hc114 | exact Or.inl hc71 | exact Or.inr (Or.inl hc76) | exact Or.inr (Or.inr (Or.inl hc81)) | exact Or.inr (Or.inr (Or.inr (Or.inl hc91))) | exact Or.inr (Or.inr (Or.inr (Or.inr (Or.inl hc102)))) | exact Or.inr (Or.inr (Or.inr (Or.inr (Or.inr (Or.inl hc127))))) | exact Or.inr (Or.inr (Or.inr (Or.inr (Or.inr (Or.inr hc141)))))))]; exact ⟨rfl, hS.fault (nI 3)⟩))
                  · refine r_iload 81 dX1_copy_79 rfl lo5 ?_
                    refine r_if_lt 109 84 dX1_copy_81 rfl (by decide) (fun hc81 => ?_) (fun hc81 => ?_)
                    · refine r_iconst 110 dX1_copy_109 rfl ic_0 ?_
                      refine r_istore 112 dX1_copy_110 rfl so6 rfl ?_
                      refine r_iload 114 dX1_copy_112 rfl lo6 ?_
                      first | refine r_if_eqN 144 117 dX1_copy_114 rfl (by decide) (by omega) (fun hc114 => ?_) (fun hc114 => ?_) | refine r_if_eq 144 117 dX1_copy_114 rfl (by decide) (fun hc114 => ?_) (fun hc114 => ?_)
                      · refine r_aload_n 145 dX1_copy_144 rfl rfl lo0 ?_
                        refine r_iconst 146 dX1_copy_145 rfl ic_3 ?_
                        refine rm_i1 149 dX1_copy_146 rfl sV_X1_107_1 hm hF (by rfl) (ev_X1_fails hm) (fun A m' hP hm hF => ?_)
                        subst hP
                        exact r_iret dX1_copy_149 rfl (Nat.le_refl _) (Nat.le_refl _) (qm hm hF (by rw [sp_copy_2 hk ho hq hp, if_neg (fun z => z hc61), if_neg (fun z => cp_bad z l2 k2 (by first | exact absurd hc114 (by decide) | exact absurd rfl hc114 | exact Or.inl hc71 | exact Or.inr (Or.inl hc76) | exact Or.inr (Or.inr (Or.inl hc81)) | exact Or.inr (Or.inr (Or.inr (Or.inl hc91))) | exact Or.inr (Or.inr (Or.inr (Or.inr (Or.inl hc102)))) | exact Or.inr (Or.inr (Or.inr (Or.inr (Or.inr (Or.inl hc127))))) | exact Or.inr (Or.inr (Or.inr (Or.inr (Or.inr (Or.inr hc141)))))))]; exact ⟨rfl, hS.fault (nI 3)⟩))
                      · refine r_iload 119 dX1_copy_117 rfl lo5 ?_
                        refine r_aload_n 120 dX1_copy_119 rfl rfl lo0 ?_
                        refine r_get 123 dX1_copy_120 rfl g_X1_13_1 hm.t lo3 ?_
                        refine r_iload_n 124 dX1_copy_123 rfl rfl lo1 ?_
                        refine r_ialdv 125 dX1_copy_124 rfl hm.a2 _ rfl h2 (by omega) (by decide) ?_
                        refine r_iload_n 126 dX1_copy_125 rfl rfl lo2 ?_
                        refine r_isub 127 dX1_copy_126 rfl ?_
                        refine r_icmp_gt 144 130 dX1_copy_127 rfl (by decide) (fun hc127 => ?_) (fun hc127 => ?_)
                        · refine r_aload_n 145 dX1_copy_144 rfl rfl lo0 ?_
                          refine r_iconst 146 dX1_copy_145 rfl ic_3 ?_
                          refine rm_i1 149 dX1_copy_146 rfl sV_X1_107_1 hm hF (by rfl) (ev_X1_fails hm) (fun A m' hP hm hF => ?_)
                          subst hP
                          exact r_iret dX1_copy_149 rfl (Nat.le_refl _) (Nat.le_refl _) (qm hm hF (by rw [sp_copy_2 hk ho hq hp, if_neg (fun z => z hc61), if_neg (fun z => cp_bad z l2 k2 (by first | exact absurd hc114 (by decide) | exact absurd rfl hc114 | exact Or.inl hc71 | exact Or.inr (Or.inl hc76) | exact Or.inr (Or.inr (Or.inl hc81)) | exact Or.inr (Or.inr (Or.inr (Or.inl hc91))) | exact Or.inr (Or.inr (Or.inr (Or.inr (Or.inl hc102)))) | exact Or.inr (Or.inr (Or.inr (Or.inr (Or.inr (Or.inl hc127))))) | exact Or.inr (Or.inr (Or.inr (Or.inr (Or.inr (Or.inr hc141)))))))]; exact ⟨rfl, hS.fault (nI 3)⟩))
                        · refine r_iload 132 dX1_copy_130 rfl lo5 ?_
                          refine r_aload_n 133 dX1_copy_132 rfl rfl lo0 ?_
                          refine r_get 136 dX1_copy_133 rfl g_X1_13_1 hm.t lo3 ?_
                          refine r_iload_n 137 dX1_copy_136 rfl rfl lo3 ?_
                          refine r_ialdv 138 dX1_copy_137 rfl hm.a2 _ rfl g2 (by omega) (by decide) ?_
                          refine r_iload 140 dX1_copy_138 rfl lo4 ?_
                          refine r_isub 141 dX1_copy_140 rfl ?_
                          refine r_icmp_le 150 144 dX1_copy_141 rfl (by decide) (fun hc141 => ?_) (fun hc141 => ?_)
                          · have z : cpOk q.2.1 p.2.1 i j n = true := by first | exact absurd rfl hc114 | exact cp_good l2 k2 hc71 hc76 hc81 hc91 hc102 hc127 hc141
                            obtain ⟨z1, z2, z3, z4, z5, z6, z7⟩ := cpOk_t.mp z
                            obtain ⟨i, i1, rfl, i3⟩ := i_nat z1
                            obtain ⟨j, j1, rfl, j3⟩ := i_nat z2
                            obtain ⟨n, n1, rfl, n3⟩ := i_nat z3
                            have e : sp_copy S (nI k) (nI i) (nI o) (nI j) (nI n) = (nI n, sF (sH S o (some (p.1, p.2.1, cpf q.2.2 p.2.2 i j n))) (nI 0)) := by rw [sp_copy_2 hk ho hq hp, if_neg (fun z => z hc61), if_pos z, nI_nat i1, nI_nat j1, nI_nat n1]
                            refine r_iload_n 151 dX1_copy_150 rfl rfl lo2 ?_
                            refine r_iload 153 dX1_copy_151 rfl lo4 ?_
                            first | refine r_icmp_geN 160 156 dX1_copy_153 rfl (by decide) (by omega) (by omega) (fun hc153 => ?_) (fun hc153 => ?_) | refine r_icmp_ge 160 156 dX1_copy_153 rfl (by decide) (fun hc153 => ?_) (fun hc153 => ?_)
                            · refine r_iconst 161 dX1_copy_160 rfl ic_0 ?_
                              refine r_istore 163 dX1_copy_161 rfl so7 rfl ?_
                              refine r_iconst 164 dX1_copy_163 rfl ic_0 ?_
                              refine r_istore 166 dX1_copy_164 rfl so8 rfl ?_
                              rw [e]
                              first | exact lf_X1_copy hS hk ho hq hp (by omega) (by omega) l2 k2 (Or.inl (by omega)) n 0 A _ _ (by omega) (by rw [cpg_0]; exact hm.eta 3) hF | exact lb_X1_copy hS hk ho hq hp (by omega) (by omega) l2 k2 (by omega) n 0 A _ _ (by omega) (by rw [Nat.sub_zero, cpg_0]; exact hm.eta 3) hF
                            · refine r_iconst 157 dX1_copy_156 rfl ic_1 ?_
                              refine r_goto 161 dX1_copy_157 (by decide) ?_
                              refine r_istore 163 dX1_copy_161 rfl so7 rfl ?_
                              refine r_iconst 164 dX1_copy_163 rfl ic_0 ?_
                              refine r_istore 166 dX1_copy_164 rfl so8 rfl ?_
                              rw [e]
                              first | exact lf_X1_copy hS hk ho hq hp (by omega) (by omega) l2 k2 (Or.inl (by omega)) n 0 A _ _ (by omega) (by rw [cpg_0]; exact hm.eta 3) hF | exact lb_X1_copy hS hk ho hq hp (by omega) (by omega) l2 k2 (by omega) n 0 A _ _ (by omega) (by rw [Nat.sub_zero, cpg_0]; exact hm.eta 3) hF
                          · refine r_aload_n 145 dX1_copy_144 rfl rfl lo0 ?_
                            refine r_iconst 146 dX1_copy_145 rfl ic_3 ?_
                            refine rm_i1 149 dX1_copy_146 rfl sV_X1_107_1 hm hF (by rfl) (ev_X1_fails hm) (fun A m' hP hm hF => ?_)
                            subst hP
                            exact r_iret dX1_copy_149 rfl (Nat.le_refl _) (Nat.le_refl _) (qm hm hF (by rw [sp_copy_2 hk ho hq hp, if_neg (fun z => z hc61), if_neg (fun z => cp_bad z l2 k2 (by first | exact absurd hc114 (by decide) | exact absurd rfl hc114 | exact Or.inl hc71 | exact Or.inr (Or.inl hc76) | exact Or.inr (Or.inr (Or.inl hc81)) | exact Or.inr (Or.inr (Or.inr (Or.inl hc91))) | exact Or.inr (Or.inr (Or.inr (Or.inr (Or.inl hc102)))) | exact Or.inr (Or.inr (Or.inr (Or.inr (Or.inr (Or.inl hc127))))) | exact Or.inr (Or.inr (Or.inr (Or.inr (Or.inr (Or.inr hc141)))))))]; exact ⟨rfl, hS.fault (nI 3)⟩))
                    · refine r_iload_n 85 dX1_copy_84 rfl rfl lo2 ?_
                      refine r_aload_n 86 dX1_copy_85 rfl rfl lo0 ?_
                      refine r_get 89 dX1_copy_86 rfl g_X1_13_1 hm.t lo3 ?_
                      refine r_iload_n 90 dX1_copy_89 rfl rfl lo1 ?_
                      refine r_ialdv 91 dX1_copy_90 rfl hm.a2 _ rfl h2 (by omega) (by decide) ?_
                      refine r_icmp_gt 109 94 dX1_copy_91 rfl (by decide) (fun hc91 => ?_) (fun hc91 => ?_)
                      · refine r_iconst 110 dX1_copy_109 rfl ic_0 ?_
                        refine r_istore 112 dX1_copy_110 rfl so6 rfl ?_
                        refine r_iload 114 dX1_copy_112 rfl lo6 ?_
                        first | refine r_if_eqN 144 117 dX1_copy_114 rfl (by decide) (by omega) (fun hc114 => ?_) (fun hc114 => ?_) | refine r_if_eq 144 117 dX1_copy_114 rfl (by decide) (fun hc114 => ?_) (fun hc114 => ?_)
                        · refine r_aload_n 145 dX1_copy_144 rfl rfl lo0 ?_
                          refine r_iconst 146 dX1_copy_145 rfl ic_3 ?_
                          refine rm_i1 149 dX1_copy_146 rfl sV_X1_107_1 hm hF (by rfl) (ev_X1_fails hm) (fun A m' hP hm hF => ?_)
                          subst hP
                          exact r_iret dX1_copy_149 rfl (Nat.le_refl _) (Nat.le_refl _) (qm hm hF (by rw [sp_copy_2 hk ho hq hp, if_neg (fun z => z hc61), if_neg (fun z => cp_bad z l2 k2 (by first | exact absurd hc114 (by decide) | exact absurd rfl hc114 | exact Or.inl hc71 | exact Or.inr (Or.inl hc76) | exact Or.inr (Or.inr (Or.inl hc81)) | exact Or.inr (Or.inr (Or.inr (Or.inl hc91))) | exact Or.inr (Or.inr (Or.inr (Or.inr (Or.inl hc102)))) | exact Or.inr (Or.inr (Or.inr (Or.inr (Or.inr (Or.inl hc127))))) | exact Or.inr (Or.inr (Or.inr (Or.inr (Or.inr (Or.inr hc141)))))))]; exact ⟨rfl, hS.fault (nI 3)⟩))
                        · refine r_iload 119 dX1_copy_117 rfl lo5 ?_
                          refine r_aload_n 120 dX1_copy_119 rfl rfl lo0 ?_
                          refine r_get 123 dX1_copy_120 rfl g_X1_13_1 hm.t lo3 ?_
                          refine r_iload_n 124 dX1_copy_123 rfl rfl lo1 ?_
                          refine r_ialdv 125 dX1_copy_124 rfl hm.a2 _ rfl h2 (by omega) (by decide) ?_
                          refine r_iload_n 126 dX1_copy_125 rfl rfl lo2 ?_
                          refine r_isub 127 dX1_copy_126 rfl ?_
                          refine r_icmp_gt 144 130 dX1_copy_127 rfl (by decide) (fun hc127 => ?_) (fun hc127 => ?_)
                          · refine r_aload_n 145 dX1_copy_144 rfl rfl lo0 ?_
                            refine r_iconst 146 dX1_copy_145 rfl ic_3 ?_
                            refine rm_i1 149 dX1_copy_146 rfl sV_X1_107_1 hm hF (by rfl) (ev_X1_fails hm) (fun A m' hP hm hF => ?_)
                            subst hP
                            exact r_iret dX1_copy_149 rfl (Nat.le_refl _) (Nat.le_refl _) (qm hm hF (by rw [sp_copy_2 hk ho hq hp, if_neg (fun z => z hc61), if_neg (fun z => cp_bad z l2 k2 (by first | exact absurd hc114 (by decide) | exact absurd rfl hc114 | exact Or.inl hc71 | exact Or.inr (Or.inl hc76) | exact Or.inr (Or.inr (Or.inl hc81)) | exact Or.inr (Or.inr (Or.inr (Or.inl hc91))) | exact Or.inr (Or.inr (Or.inr (Or.inr (Or.inl hc102)))) | exact Or.inr (Or.inr (Or.inr (Or.inr (Or.inr (Or.inl hc127))))) | exact Or.inr (Or.inr (Or.inr (Or.inr (Or.inr (Or.inr hc141)))))))]; exact ⟨rfl, hS.fault (nI 3)⟩))
                          · refine r_iload 132 dX1_copy_130 rfl lo5 ?_
                            refine r_aload_n 133 dX1_copy_132 rfl rfl lo0 ?_
                            refine r_get 136 dX1_copy_133 rfl g_X1_13_1 hm.t lo3 ?_
                            refine r_iload_n 137 dX1_copy_136 rfl rfl lo3 ?_
                            refine r_ialdv 138 dX1_copy_137 rfl hm.a2 _ rfl g2 (by omega) (by decide) ?_
                            refine r_iload 140 dX1_copy_138 rfl lo4 ?_
                            refine r_isub 141 dX1_copy_140 rfl ?_
                            refine r_icmp_le 150 144 dX1_copy_141 rfl (by decide) (fun hc141 => ?_) (fun hc141 => ?_)
                            · have z : cpOk q.2.1 p.2.1 i j n = true := by first | exact absurd rfl hc114 | exact cp_good l2 k2 hc71 hc76 hc81 hc91 hc102 hc127 hc141
                              obtain ⟨z1, z2, z3, z4, z5, z6, z7⟩ := cpOk_t.mp z
                              obtain ⟨i, i1, rfl, i3⟩ := i_nat z1
                              obtain ⟨j, j1, rfl, j3⟩ := i_nat z2
                              obtain ⟨n, n1, rfl, n3⟩ := i_nat z3
                              have e : sp_copy S (nI k) (nI i) (nI o) (nI j) (nI n) = (nI n, sF (sH S o (some (p.1, p.2.1, cpf q.2.2 p.2.2 i j n))) (nI 0)) := by rw [sp_copy_2 hk ho hq hp, if_neg (fun z => z hc61), if_pos z, nI_nat i1, nI_nat j1, nI_nat n1]
                              refine r_iload_n 151 dX1_copy_150 rfl rfl lo2 ?_
                              refine r_iload 153 dX1_copy_151 rfl lo4 ?_
                              first | refine r_icmp_geN 160 156 dX1_copy_153 rfl (by decide) (by omega) (by omega) (fun hc153 => ?_) (fun hc153 => ?_) | refine r_icmp_ge 160 156 dX1_copy_153 rfl (by decide) (fun hc153 => ?_) (fun hc153 => ?_)
                              · refine r_iconst 161 dX1_copy_160 rfl ic_0 ?_
                                refine r_istore 163 dX1_copy_161 rfl so7 rfl ?_
                                refine r_iconst 164 dX1_copy_163 rfl ic_0 ?_
                                refine r_istore 166 dX1_copy_164 rfl so8 rfl ?_
                                rw [e]
                                first | exact lf_X1_copy hS hk ho hq hp (by omega) (by omega) l2 k2 (Or.inl (by omega)) n 0 A _ _ (by omega) (by rw [cpg_0]; exact hm.eta 3) hF | exact lb_X1_copy hS hk ho hq hp (by omega) (by omega) l2 k2 (by omega) n 0 A _ _ (by omega) (by rw [Nat.sub_zero, cpg_0]; exact hm.eta 3) hF
                              · refine r_iconst 157 dX1_copy_156 rfl ic_1 ?_
                                refine r_goto 161 dX1_copy_157 (by decide) ?_
                                refine r_istore 163 dX1_copy_161 rfl so7 rfl ?_
                                refine r_iconst 164 dX1_copy_163 rfl ic_0 ?_
                                refine r_istore 166 dX1_copy_164 rfl so8 rfl ?_
                                rw [e]
                                first | exact lf_X1_copy hS hk ho hq hp (by omega) (by omega) l2 k2 (Or.inl (by omega)) n 0 A _ _ (by omega) (by rw [cpg_0]; exact hm.eta 3) hF | exact lb_X1_copy hS hk ho hq hp (by omega) (by omega) l2 k2 (by omega) n 0 A _ _ (by omega) (by rw [Nat.sub_zero, cpg_0]; exact hm.eta 3) hF
                            · refine r_aload_n 145 dX1_copy_144 rfl rfl lo0 ?_
                              refine r_iconst 146 dX1_copy_145 rfl ic_3 ?_
                              refine rm_i1 149 dX1_copy_146 rfl sV_X1_107_1 hm hF (by rfl) (ev_X1_fails hm) (fun A m' hP hm hF => ?_)
                              subst hP
                              exact r_iret dX1_copy_149 rfl (Nat.le_refl _) (Nat.le_refl _) (qm hm hF (by rw [sp_copy_2 hk ho hq hp, if_neg (fun z => z hc61), if_neg (fun z => cp_bad z l2 k2 (by first | exact absurd hc114 (by decide) | exact absurd rfl hc114 | exact Or.inl hc71 | exact Or.inr (Or.inl hc76) | exact Or.inr (Or.inr (Or.inl hc81)) | exact Or.inr (Or.inr (Or.inr (Or.inl hc91))) | exact Or.inr (Or.inr (Or.inr (Or.inr (Or.inl hc102)))) | exact Or.inr (Or.inr (Or.inr (Or.inr (Or.inr (Or.inl hc127))))) | exact Or.inr (Or.inr (Or.inr (Or.inr (Or.inr (Or.inr hc141)))))))]; exact ⟨rfl, hS.fault (nI 3)⟩))
                      · refine r_iload 96 dX1_copy_94 rfl lo4 ?_
                        refine r_aload_n 97 dX1_copy_96 rfl rfl lo0 ?_
                        refine r_get 100 dX1_copy_97 rfl g_X1_13_1 hm.t lo3 ?_
                        refine r_iload_n 101 dX1_copy_100 rfl rfl lo3 ?_
                        refine r_ialdv 102 dX1_copy_101 rfl hm.a2 _ rfl g2 (by omega) (by decide) ?_
                        refine r_icmp_gt 109 105 dX1_copy_102 rfl (by decide) (fun hc102 => ?_) (fun hc102 => ?_)
                        · refine r_iconst 110 dX1_copy_109 rfl ic_0 ?_
                          refine r_istore 112 dX1_copy_110 rfl so6 rfl ?_
                          refine r_iload 114 dX1_copy_112 rfl lo6 ?_
                          first | refine r_if_eqN 144 117 dX1_copy_114 rfl (by decide) (by omega) (fun hc114 => ?_) (fun hc114 => ?_) | refine r_if_eq 144 117 dX1_copy_114 rfl (by decide) (fun hc114 => ?_) (fun hc114 => ?_)
                          · refine r_aload_n 145 dX1_copy_144 rfl rfl lo0 ?_
                            refine r_iconst 146 dX1_copy_145 rfl ic_3 ?_
                            refine rm_i1 149 dX1_copy_146 rfl sV_X1_107_1 hm hF (by rfl) (ev_X1_fails hm) (fun A m' hP hm hF => ?_)
                            subst hP
                            exact r_iret dX1_copy_149 rfl (Nat.le_refl _) (Nat.le_refl _) (qm hm hF (by rw [sp_copy_2 hk ho hq hp, if_neg (fun z => z hc61), if_neg (fun z => cp_bad z l2 k2 (by first | exact absurd hc114 (by decide) | exact absurd rfl hc114 | exact Or.inl hc71 | exact Or.inr (Or.inl hc76) | exact Or.inr (Or.inr (Or.inl hc81)) | exact Or.inr (Or.inr (Or.inr (Or.inl hc91))) | exact Or.inr (Or.inr (Or.inr (Or.inr (Or.inl hc102)))) | exact Or.inr (Or.inr (Or.inr (Or.inr (Or.inr (Or.inl hc127))))) | exact Or.inr (Or.inr (Or.inr (Or.inr (Or.inr (Or.inr hc141)))))))]; exact ⟨rfl, hS.fault (nI 3)⟩))
                          · refine r_iload 119 dX1_copy_117 rfl lo5 ?_
                            refine r_aload_n 120 dX1_copy_119 rfl rfl lo0 ?_
                            refine r_get 123 dX1_copy_120 rfl g_X1_13_1 hm.t lo3 ?_
                            refine r_iload_n 124 dX1_copy_123 rfl rfl lo1 ?_
                            refine r_ialdv 125 dX1_copy_124 rfl hm.a2 _ rfl h2 (by omega) (by decide) ?_
                            refine r_iload_n 126 dX1_copy_125 rfl rfl lo2 ?_
                            refine r_isub 127 dX1_copy_126 rfl ?_
                            refine r_icmp_gt 144 130 dX1_copy_127 rfl (by decide) (fun hc127 => ?_) (fun hc127 => ?_)
                            · refine r_aload_n 145 dX1_copy_144 rfl rfl lo0 ?_
                              refine r_iconst 146 dX1_copy_145 rfl ic_3 ?_
                              refine rm_i1 149 dX1_copy_146 rfl sV_X1_107_1 hm hF (by rfl) (ev_X1_fails hm) (fun A m' hP hm hF => ?_)
                              subst hP
                              exact r_iret dX1_copy_149 rfl (Nat.le_refl _) (Nat.le_refl _) (qm hm hF (by rw [sp_copy_2 hk ho hq hp, if_neg (fun z => z hc61), if_neg (fun z => cp_bad z l2 k2 (by first | exact absurd hc114 (by decide) | exact absurd rfl hc114 | exact Or.inl hc71 | exact Or.inr (Or.inl hc76) | exact Or.inr (Or.inr (Or.inl hc81)) | exact Or.inr (Or.inr (Or.inr (Or.inl hc91))) | exact Or.inr (Or.inr (Or.inr (Or.inr (Or.inl hc102)))) | exact Or.inr (Or.inr (Or.inr (Or.inr (Or.inr (Or.inl hc127))))) | exact Or.inr (Or.inr (Or.inr (Or.inr (Or.inr (Or.inr hc141)))))))]; exact ⟨rfl, hS.fault (nI 3)⟩))
                            · refine r_iload 132 dX1_copy_130 rfl lo5 ?_
                              refine r_aload_n 133 dX1_copy_132 rfl rfl lo0 ?_
                              refine r_get 136 dX1_copy_133 rfl g_X1_13_1 hm.t lo3 ?_
                              refine r_iload_n 137 dX1_copy_136 rfl rfl lo3 ?_
                              refine r_ialdv 138 dX1_copy_137 rfl hm.a2 _ rfl g2 (by omega) (by decide) ?_
                              refine r_iload 140 dX1_copy_138 rfl lo4 ?_
                              refine r_isub 141 dX1_copy_140 rfl ?_
                              refine r_icmp_le 150 144 dX1_copy_141 rfl (by decide) (fun hc141 => ?_) (fun hc141 => ?_)
                              · have z : cpOk q.2.1 p.2.1 i j n = true := by first | exact absurd rfl hc114 | exact cp_good l2 k2 hc71 hc76 hc81 hc91 hc102 hc127 hc141
                                obtain ⟨z1, z2, z3, z4, z5, z6, z7⟩ := cpOk_t.mp z
                                obtain ⟨i, i1, rfl, i3⟩ := i_nat z1
                                obtain ⟨j, j1, rfl, j3⟩ := i_nat z2
                                obtain ⟨n, n1, rfl, n3⟩ := i_nat z3
                                have e : sp_copy S (nI k) (nI i) (nI o) (nI j) (nI n) = (nI n, sF (sH S o (some (p.1, p.2.1, cpf q.2.2 p.2.2 i j n))) (nI 0)) := by rw [sp_copy_2 hk ho hq hp, if_neg (fun z => z hc61), if_pos z, nI_nat i1, nI_nat j1, nI_nat n1]
                                refine r_iload_n 151 dX1_copy_150 rfl rfl lo2 ?_
                                refine r_iload 153 dX1_copy_151 rfl lo4 ?_
                                first | refine r_icmp_geN 160 156 dX1_copy_153 rfl (by decide) (by omega) (by omega) (fun hc153 => ?_) (fun hc153 => ?_) | refine r_icmp_ge 160 156 dX1_copy_153 rfl (by decide) (fun hc153 => ?_) (fun hc153 => ?_)
                                · refine r_iconst 161 dX1_copy_160 rfl ic_0 ?_
                                  refine r_istore 163 dX1_copy_161 rfl so7 rfl ?_
                                  refine r_iconst 164 dX1_copy_163 rfl ic_0 ?_
                                  refine r_istore 166 dX1_copy_164 rfl so8 rfl ?_
                                  rw [e]
                                  first | exact lf_X1_copy hS hk ho hq hp (by omega) (by omega) l2 k2 (Or.inl (by omega)) n 0 A _ _ (by omega) (by rw [cpg_0]; exact hm.eta 3) hF | exact lb_X1_copy hS hk ho hq hp (by omega) (by omega) l2 k2 (by omega) n 0 A _ _ (by omega) (by rw [Nat.sub_zero, cpg_0]; exact hm.eta 3) hF
                                · refine r_iconst 157 dX1_copy_156 rfl ic_1 ?_
                                  refine r_goto 161 dX1_copy_157 (by decide) ?_
                                  refine r_istore 163 dX1_copy_161 rfl so7 rfl ?_
                                  refine r_iconst 164 dX1_copy_163 rfl ic_0 ?_
                                  refine r_istore 166 dX1_copy_164 rfl so8 rfl ?_
                                  rw [e]
                                  first | exact lf_X1_copy hS hk ho hq hp (by omega) (by omega) l2 k2 (Or.inl (by omega)) n 0 A _ _ (by omega) (by rw [cpg_0]; exact hm.eta 3) hF | exact lb_X1_copy hS hk ho hq hp (by omega) (by omega) l2 k2 (by omega) n 0 A _ _ (by omega) (by rw [Nat.sub_zero, cpg_0]; exact hm.eta 3) hF
                              · refine r_aload_n 145 dX1_copy_144 rfl rfl lo0 ?_
                                refine r_iconst 146 dX1_copy_145 rfl ic_3 ?_
                                refine rm_i1 149 dX1_copy_146 rfl sV_X1_107_1 hm hF (by rfl) (ev_X1_fails hm) (fun A m' hP hm hF => ?_)
                                subst hP
                                exact r_iret dX1_copy_149 rfl (Nat.le_refl _) (Nat.le_refl _) (qm hm hF (by rw [sp_copy_2 hk ho hq hp, if_neg (fun z => z hc61), if_neg (fun z => cp_bad z l2 k2 (by first | exact absurd hc114 (by decide) | exact absurd rfl hc114 | exact Or.inl hc71 | exact Or.inr (Or.inl hc76) | exact Or.inr (Or.inr (Or.inl hc81)) | exact Or.inr (Or.inr (Or.inr (Or.inl hc91))) | exact Or.inr (Or.inr (Or.inr (Or.inr (Or.inl hc102)))) | exact Or.inr (Or.inr (Or.inr (Or.inr (Or.inr (Or.inl hc127))))) | exact Or.inr (Or.inr (Or.inr (Or.inr (Or.inr (Or.inr hc141)))))))]; exact ⟨rfl, hS.fault (nI 3)⟩))
                        · refine r_iconst 106 dX1_copy_105 rfl ic_1 ?_
                          refine r_goto 110 dX1_copy_106 (by decide) ?_
                          refine r_istore 112 dX1_copy_110 rfl so6 rfl ?_
                          refine r_iload 114 dX1_copy_112 rfl lo6 ?_
                          first | refine r_if_eqN 144 117 dX1_copy_114 rfl (by decide) (by omega) (fun hc114 => ?_) (fun hc114 => ?_) | refine r_if_eq 144 117 dX1_copy_114 rfl (by decide) (fun hc114 => ?_) (fun hc114 => ?_)
                          · refine r_aload_n 145 dX1_copy_144 rfl rfl lo0 ?_
                            refine r_iconst 146 dX1_copy_145 rfl ic_3 ?_
                            refine rm_i1 149 dX1_copy_146 rfl sV_X1_107_1 hm hF (by rfl) (ev_X1_fails hm) (fun A m' hP hm hF => ?_)
                            subst hP
                            exact r_iret dX1_copy_149 rfl (Nat.le_refl _) (Nat.le_refl _) (qm hm hF (by rw [sp_copy_2 hk ho hq hp, if_neg (fun z => z hc61), if_neg (fun z => cp_bad z l2 k2 (by first | exact absurd hc114 (by decide) | exact absurd rfl hc114 | exact Or.inl hc71 | exact Or.inr (Or.inl hc76) | exact Or.inr (Or.inr (Or.inl hc81)) | exact Or.inr (Or.inr (Or.inr (Or.inl hc91))) | exact Or.inr (Or.inr (Or.inr (Or.inr (Or.inl hc102)))) | exact Or.inr (Or.inr (Or.inr (Or.inr (Or.inr (Or.inl hc127))))) | exact Or.inr (Or.inr (Or.inr (Or.inr (Or.inr (Or.inr hc141)))))))]; exact ⟨rfl, hS.fault (nI 3)⟩))
                          · refine r_iload 119 dX1_copy_117 rfl lo5 ?_
                            refine r_aload_n 120 dX1_copy_119 rfl rfl lo0 ?_
                            refine r_get 123 dX1_copy_120 rfl g_X1_13_1 hm.t lo3 ?_
                            refine r_iload_n 124 dX1_copy_123 rfl rfl lo1 ?_
                            refine r_ialdv 125 dX1_copy_124 rfl hm.a2 _ rfl h2 (by omega) (by decide) ?_
                            refine r_iload_n 126 dX1_copy_125 rfl rfl lo2 ?_
                            refine r_isub 127 dX1_copy_126 rfl ?_
                            refine r_icmp_gt 144 130 dX1_copy_127 rfl (by decide) (fun hc127 => ?_) (fun hc127 => ?_)
                            · refine r_aload_n 145 dX1_copy_144 rfl rfl lo0 ?_
                              refine r_iconst 146 dX1_copy_145 rfl ic_3 ?_
                              refine rm_i1 149 dX1_copy_146 rfl sV_X1_107_1 hm hF (by rfl) (ev_X1_fails hm) (fun A m' hP hm hF => ?_)
                              subst hP
                              exact r_iret dX1_copy_149 rfl (Nat.le_refl _) (Nat.le_refl _) (qm hm hF (by rw [sp_copy_2 hk ho hq hp, if_neg (fun z => z hc61), if_neg (fun z => cp_bad z l2 k2 (by first | exact absurd hc114 (by decide) | exact absurd rfl hc114 | exact Or.inl hc71 | exact Or.inr (Or.inl hc76) | exact Or.inr (Or.inr (Or.inl hc81)) | exact Or.inr (Or.inr (Or.inr (Or.inl hc91))) | exact Or.inr (Or.inr (Or.inr (Or.inr (Or.inl hc102)))) | exact Or.inr (Or.inr (Or.inr (Or.inr (Or.inr (Or.inl hc127))))) | exact Or.inr (Or.inr (Or.inr (Or.inr (Or.inr (Or.inr hc141)))))))]; exact ⟨rfl, hS.fault (nI 3)⟩))
                            · refine r_iload 132 dX1_copy_130 rfl lo5 ?_
                              refine r_aload_n 133 dX1_copy_132 rfl rfl lo0 ?_
                              refine r_get 136 dX1_copy_133 rfl g_X1_13_1 hm.t lo3 ?_
                              refine r_iload_n 137 dX1_copy_136 rfl rfl lo3 ?_
                              refine r_ialdv 138 dX1_copy_137 rfl hm.a2 _ rfl g2 (by omega) (by decide) ?_
                              refine r_iload 140 dX1_copy_138 rfl lo4 ?_
                              refine r_isub 141 dX1_copy_140 rfl ?_
                              refine r_icmp_le 150 144 dX1_copy_141 rfl (by decide) (fun hc141 => ?_) (fun hc141 => ?_)
                              · have z : cpOk q.2.1 p.2.1 i j n = true := by first | exact absurd rfl hc114 | exact cp_good l2 k2 hc71 hc76 hc81 hc91 hc102 hc127 hc141
                                obtain ⟨z1, z2, z3, z4, z5, z6, z7⟩ := cpOk_t.mp z
                                obtain ⟨i, i1, rfl, i3⟩ := i_nat z1
                                obtain ⟨j, j1, rfl, j3⟩ := i_nat z2
                                obtain ⟨n, n1, rfl, n3⟩ := i_nat z3
                                have e : sp_copy S (nI k) (nI i) (nI o) (nI j) (nI n) = (nI n, sF (sH S o (some (p.1, p.2.1, cpf q.2.2 p.2.2 i j n))) (nI 0)) := by rw [sp_copy_2 hk ho hq hp, if_neg (fun z => z hc61), if_pos z, nI_nat i1, nI_nat j1, nI_nat n1]
                                refine r_iload_n 151 dX1_copy_150 rfl rfl lo2 ?_
                                refine r_iload 153 dX1_copy_151 rfl lo4 ?_
                                first | refine r_icmp_geN 160 156 dX1_copy_153 rfl (by decide) (by omega) (by omega) (fun hc153 => ?_) (fun hc153 => ?_) | refine r_icmp_ge 160 156 dX1_copy_153 rfl (by decide) (fun hc153 => ?_) (fun hc153 => ?_)
                                · refine r_iconst 161 dX1_copy_160 rfl ic_0 ?_
                                  refine r_istore 163 dX1_copy_161 rfl so7 rfl ?_
                                  refine r_iconst 164 dX1_copy_163 rfl ic_0 ?_
                                  refine r_istore 166 dX1_copy_164 rfl so8 rfl ?_
                                  rw [e]
                                  first | exact lf_X1_copy hS hk ho hq hp (by omega) (by omega) l2 k2 (Or.inl (by omega)) n 0 A _ _ (by omega) (by rw [cpg_0]; exact hm.eta 3) hF | exact lb_X1_copy hS hk ho hq hp (by omega) (by omega) l2 k2 (by omega) n 0 A _ _ (by omega) (by rw [Nat.sub_zero, cpg_0]; exact hm.eta 3) hF
                                · refine r_iconst 157 dX1_copy_156 rfl ic_1 ?_
                                  refine r_goto 161 dX1_copy_157 (by decide) ?_
                                  refine r_istore 163 dX1_copy_161 rfl so7 rfl ?_
                                  refine r_iconst 164 dX1_copy_163 rfl ic_0 ?_
                                  refine r_istore 166 dX1_copy_164 rfl so8 rfl ?_
                                  rw [e]
                                  first | exact lf_X1_copy hS hk ho hq hp (by omega) (by omega) l2 k2 (Or.inl (by omega)) n 0 A _ _ (by omega) (by rw [cpg_0]; exact hm.eta 3) hF | exact lb_X1_copy hS hk ho hq hp (by omega) (by omega) l2 k2 (by omega) n 0 A _ _ (by omega) (by rw [Nat.sub_zero, cpg_0]; exact hm.eta 3) hF
                              · refine r_aload_n 145 dX1_copy_144 rfl rfl lo0 ?_
                                refine r_iconst 146 dX1_copy_145 rfl ic_3 ?_
                                refine rm_i1 149 dX1_copy_146 rfl sV_X1_107_1 hm hF (by rfl) (ev_X1_fails hm) (fun A m' hP hm hF => ?_)
                                subst hP
                                exact r_iret dX1_copy_149 rfl (Nat.le_refl _) (Nat.le_refl _) (qm hm hF (by rw [sp_copy_2 hk ho hq hp, if_neg (fun z => z hc61), if_neg (fun z => cp_bad z l2 k2 (by first | exact absurd hc114 (by decide) | exact absurd rfl hc114 | exact Or.inl hc71 | exact Or.inr (Or.inl hc76) | exact Or.inr (Or.inr (Or.inl hc81)) | exact Or.inr (Or.inr (Or.inr (Or.inl hc91))) | exact Or.inr (Or.inr (Or.inr (Or.inr (Or.inl hc102)))) | exact Or.inr (Or.inr (Or.inr (Or.inr (Or.inr (Or.inl hc127))))) | exact Or.inr (Or.inr (Or.inr (Or.inr (Or.inr (Or.inr hc141)))))))]; exact ⟨rfl, hS.fault (nI 3)⟩))
              · refine r_aload_n 65 dX1_copy_64 rfl rfl lo0 ?_
                refine r_iconst 66 dX1_copy_65 rfl ic_2 ?_
                refine rm_i1 69 dX1_copy_66 rfl sV_X1_107_1 hm hF (by rfl) (ev_X1_fails hm) (fun A m' hP hm hF => ?_)
                subst hP
                exact r_iret dX1_copy_69 rfl (Nat.le_refl _) (Nat.le_refl _) (qm hm hF (by rw [sp_copy_2 hk ho hq hp, if_pos hc61]; exact ⟨rfl, hS.fault (nI 2)⟩))
            · exact absurd hc40 (nI_m9 (by omega))
    · refine r_iconst 20 dX1_copy_19 rfl ic_m1 ?_
      exact r_iret dX1_copy_20 rfl (Nat.le_refl _) (Nat.le_refl _) (qm hm hF (by have e : sp_copy S k i o j n = (-1, sF S (nI 0)) := by { unfold sp_copy; rw [if_pos (by first | exact Or.inl (by rw [hc9]; decide) | exact Or.inr (by rw [hc16]; decide))] }; rw [e]; exact ⟨rfl, hS.fault (nI 0)⟩))

