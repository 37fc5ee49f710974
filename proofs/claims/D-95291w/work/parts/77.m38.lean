/-! THE CLASS: mend, saves, tell; rows -/
set_option maxRecDepth 100000
section PN
variable {w : WE} {M : MI} {R : Room} {Z : ZT} {k n : Nat} {A A0 : Hp} {pc : Nat} {lo : List (Option Value)} {st : List Value} {x : XT} {S : ST}
theorem r_putN {idx ci kf a : Nat} {fs fs' : List Value} {v : Value} {ty : FieldType} (nx : Nat) (hd : decode M.2.1 pc = .ok (.putfield idx, 3)) (hn : pc + 3 = nx) (S : SiteGN M.1.cls idx ci kf) (SC : ClsW ci) (SF : FldW ci kf false ty) (hA : A.1 a = some (.inr (ci, fs))) (hb : wb w ≤ a) (hs : fs.set kf v = fs') (hl0 : kf < fs.length) (hnar : narrow ty v = v) (hfit : fits ty v = true) (K : Rn w M R Z k n (hp_up A a (.inr (ci, fs'))) nx lo st) : Rn w M R Z k n A pc lo (v :: .ref a :: st) := by
  subst hn
  subst hs
  intro p e s m args below meth c H locs ls C hR hL hl
  obtain ⟨Cn, T, N, ref, host, hc, hk, hin, hlink, hsame⟩ := S
  obtain ⟨Cn', T', N', hc', hfin, hpd⟩ := SF
  rw [hc] at hc'
  cases hc'
  have hap := cls_apart C.ts C.k.K SC hc
  obtain ⟨r, h1, cell, q1, q2, q3, q4⟩ := hR.at hA
  have hr : r = (Cn, T, N) := Option.some.inj (h1.symm.trans hc)
  subst hr
  obtain ⟨hS, hfc, kC, hkC, hkind⟩ := C.k.K.1 ci _ hc
  obtain ⟨cf, kff, fi, f, hi, hsl⟩ := hS kf hk
  have hlay := C.ts _ (hin _ (u_in_lay hk))
  unfold u_lay at hlay
  rw [if_neg (by rw [hfin]; decide)] at hlay
  have hst := (u_facts hfc hkC (u_lays C.ts hin hk) hi).1
  have h6 := u_store hfc hkC hkind hlay hi hpd hnar hfit
  have hsm : s.fieldFound? ref (T kf).2.1 (T kf).2.2.1 = some (cf, kff, fi, f) := by
    rcases hsame with h | h
    · rw [h]; exact hi
    · exact u_same (C.ts _ h) _ hi
  refine va_WputK C.x C.b (f := f) C.own (C.k.nest hlink) hsm hst (by rw [q2]; exact h6) q1 q3 (by rw [hsl]; exact k2_hasslot (q4 kf hk)) rfl rfl hd fun H' e1 e2 e3 => ?_
  rw [hsl] at e1 ⊢
  exact K p e s m args below meth c H' _ ls C (hR.up hb ⟨_, hc, t_OB.to (V := updV (vp_V fs) kf v) ⟨_, e1, q2, q3, t_set q4 hap hk v⟩ (fun j _ => vp_updV_set hl0 v j)⟩ e2 e3) (lc_app hL hb) hl
theorem dyn_wb {a : Nat} (h : dyn w a) : wb w ≤ a := by
  have hb : wb w + 21 = mb w := rfl
  omega
theorem XS.fault (h : XS w A x S) (f : Int32) : XS w (hp_up A (wb w) (.inr (0, xf (wb w) (va_up x.1 12 f)))) (va_up x.1 12 f, x.2) (sF S f) := h.sc h.il h.tr rfl
theorem XS.trace (h : XS w A x S) (t : Int32) : XS w (hp_up A (wb w) (.inr (0, xf (wb w) (va_up x.1 2 t)))) (va_up x.1 2 t, x.2) (sT S t) := h.sc h.il rfl h.fa
theorem XS.over (h : XS w A x S) (t : Int32) : XS w (hp_up A (wb w) (.inr (0, xf (wb w) (va_up x.1 10 t)))) (va_up x.1 10 t, x.2) S := h.sc h.il h.tr h.fa
theorem Fx.atw (hF : Fx w A0 A) (e : va_E) : Fx w A0 (hp_up A (wb w) e) := hF.tr (Fx.up (Or.inl (by show wb w < wb w + 21; omega)))
theorem rx_fault {idx : Nat} {v : Int32} (nx : Nat) (hd : decode M.2.1 pc = .ok (.putfield idx, 3)) (hn : pc + 3 = nx) (hx : XS w A x S) (hF : Fx w A0 A) (T : SiteG M.1.cls idx 0 12) (K : ∀ A' : Hp, XS w A' (va_up x.1 12 v, x.2) (sF S v) → Fx w A0 A' → Rn w M R Z k n A' nx lo st) : Rn w M R Z k n A pc lo (.int v :: .ref (wb w) :: st) :=
  r_put nx hd hn T cw_0 fw_0_12 hx.t (Nat.le_refl _) rfl (Nat.le_of_ble_eq_true rfl) rfl rfl (K _ (hx.fault v) (hF.atw _))
theorem rx_over {idx : Nat} {v : Int32} (nx : Nat) (hd : decode M.2.1 pc = .ok (.putfield idx, 3)) (hn : pc + 3 = nx) (hx : XS w A x S) (hF : Fx w A0 A) (T : SiteG M.1.cls idx 0 10) (K : ∀ A' : Hp, XS w A' (va_up x.1 10 v, x.2) S → Fx w A0 A' → Rn w M R Z k n A' nx lo st) : Rn w M R Z k n A pc lo (.int v :: .ref (wb w) :: st) :=
  r_put nx hd hn T cw_0 fw_0_10 hx.t (Nat.le_refl _) rfl (Nat.le_of_ble_eq_true rfl) rfl rfl (K _ (hx.over v) (hF.atw _))
theorem rx_trace {idx : Nat} {v : Int32} (nx : Nat) (hd : decode M.2.1 pc = .ok (.putfield idx, 3)) (hn : pc + 3 = nx) (hx : XS w A x S) (hF : Fx w A0 A) (T : SiteGN M.1.cls idx 0 2) (K : Rn w M R Z k n (hp_up A (wb w) (.inr (0, xf (wb w) (va_up x.1 2 v)))) nx lo st) : Rn w M R Z k n A pc lo (.int v :: .ref (wb w) :: st) :=
  r_putN nx hd hn T cw_0 fw_0_2 hx.t (Nat.le_refl _) rfl (Nat.le_of_ble_eq_true rfl) rfl rfl K
variable {M' M3 M4 M5 : MI} {d' d3 d4 d5 mc' ms' idx b bb kk : Nat} {q : Rd} {r : Value} {P : Hp → Prop}
theorem rRx1 {v0 : Value} (nx : Nat) (hd : decode M.2.1 pc = .ok (.invokevirtual idx, 3)) (hn : pc + 3 = nx) (S3 : SiteV M.1.cls idx 3 M' 1) (S4 : SiteU M.1.cls idx 4 M' 1) (S5 : SiteU M.1.cls idx 5 M' 1) (hA : A.1 b = some (rdE bb kk q)) (hk : q.1 ≤ 2) (hok : cOk R M'.2.2.1 d' mc' ms' k n st = true) (hE : EvP w M' d' mc' ms' [.ref b, v0] A (some r) P) (K : ∀ A' : Hp, P A' → Rn w M R Z (k + mc') (n + ms') A' nx lo (r :: st)) : Rn w M R Z k n A pc lo (v0 :: .ref b :: st) := by
  rcases (show q.1 = 0 ∨ q.1 = 1 ∨ q.1 = 2 by omega) with e | e | e
  · exact rx_V1x nx hd hn S3 (show A.1 b = some (.inr (3, rdF bb kk q)) from hA.trans (congrArg some (rdE_c e))) hok hE K
  · exact rx_U1x nx hd hn S4 (show A.1 b = some (.inr (4, rdF bb kk q)) from hA.trans (congrArg some (rdE_c e))) hok hE K
  · exact rx_U1x nx hd hn S5 (show A.1 b = some (.inr (5, rdF bb kk q)) from hA.trans (congrArg some (rdE_c e))) hok hE K
theorem rRx1b {v0 : Value} (nx : Nat) (hd : decode M.2.1 pc = .ok (.invokevirtual idx, 3)) (hn : pc + 3 = nx) (S4 : SiteU M.1.cls idx 4 M' 1) (S5 : SiteU M.1.cls idx 5 M' 1) (hA : A.1 b = some (rdE bb kk q)) (hk : q.1 = 1 ∨ q.1 = 2) (hok : cOk R M'.2.2.1 d' mc' ms' k n st = true) (hE : EvP w M' d' mc' ms' [.ref b, v0] A (some r) P) (K : ∀ A' : Hp, P A' → Rn w M R Z (k + mc') (n + ms') A' nx lo (r :: st)) : Rn w M R Z k n A pc lo (v0 :: .ref b :: st) := by
  rcases hk with e | e
  · exact rx_U1x nx hd hn S4 (show A.1 b = some (.inr (4, rdF bb kk q)) from hA.trans (congrArg some (rdE_c e))) hok hE K
  · exact rx_U1x nx hd hn S5 (show A.1 b = some (.inr (5, rdF bb kk q)) from hA.trans (congrArg some (rdE_c e))) hok hE K
theorem rRy0 (nx : Nat) (hd : decode M.2.1 pc = .ok (.invokevirtual idx, 3)) (hn : pc + 3 = nx) (S3 : SiteV M.1.cls idx 3 M3 0) (S4 : SiteU M.1.cls idx 4 M4 0) (S5 : SiteU M.1.cls idx 5 M5 0) (hA : A.1 b = some (rdE bb kk q)) (hk : q.1 ≤ 2) (o3 : cOk R M3.2.2.1 d3 mc' ms' k n st = true) (o4 : cOk R M4.2.2.1 d4 mc' ms' k n st = true) (o5 : cOk R M5.2.2.1 d5 mc' ms' k n st = true) (E3 : q.1 = 0 → EvP w M3 d3 mc' ms' [.ref b] A (some r) P) (E4 : q.1 = 1 → EvP w M4 d4 mc' ms' [.ref b] A (some r) P) (E5 : q.1 = 2 → EvP w M5 d5 mc' ms' [.ref b] A (some r) P) (K : ∀ A' : Hp, P A' → Rn w M R Z (k + mc') (n + ms') A' nx lo (r :: st)) : Rn w M R Z k n A pc lo (.ref b :: st) := by
  rcases (show q.1 = 0 ∨ q.1 = 1 ∨ q.1 = 2 by omega) with e | e | e
  · exact rx_V0x nx hd hn S3 (show A.1 b = some (.inr (3, rdF bb kk q)) from hA.trans (congrArg some (rdE_c e))) o3 (E3 e) K
  · exact rx_U0x nx hd hn S4 (show A.1 b = some (.inr (4, rdF bb kk q)) from hA.trans (congrArg some (rdE_c e))) o4 (E4 e) K
  · exact rx_U0x nx hd hn S5 (show A.1 b = some (.inr (5, rdF bb kk q)) from hA.trans (congrArg some (rdE_c e))) o5 (E5 e) K
end PN
/-- behind a call that writes the trace: t' -/
abbrev TrP (w : WE) (A : Hp) (a k : Nat) (q : Rd) (S : ST) (t' : Int32) (A' : Hp) : Prop := ∃ x' : XT, XS w A' x' (sT S t') ∧ Fx w A A' ∧ A'.1 a = some (rdE (wb w) k q)
set_option maxHeartbeats 4000000 in
theorem ev_X6_tracedBy {w : WE} {A : Hp} {a k : Nat} {q : Rd} {x : XT} {S : ST} (hA : A.1 a = some (rdE (wb w) k q)) (hk : q.1 ≤ 2) (hx : XS w A x S) {n : Nat} : EvP w mX6_tracedBy 0 0 0 [.ref a, .int (nI n)] A (some (.int (nI 0))) (TrP w A a k q S (tb S.2.2.2.1 n)) := by
  refine Ev.mk 0 [some (.ref a), some (.int (nI n))] rfl plX6 (Nat.le_of_ble_eq_true rfl) ?_
  have hne : a ≠ wb w := ne_oo hA hx.t (by omega)
  refine r_aload_n 1 dX6_tracedBy_0 rfl rfl lo0 ?_
  refine r_get 4 dX6_tracedBy_1 rfl (gR_X6_3 hk) hA lo6 ?_
  refine r_bipush 6 dX6_tracedBy_4 rfl bi_31 ?_
  refine r_aload_n 7 dX6_tracedBy_6 rfl rfl lo0 ?_
  refine r_get 10 dX6_tracedBy_7 rfl (gR_X6_3 hk) hA lo6 ?_
  refine r_getN 13 dX6_tracedBy_10 rfl gN_X6_38_0 hx.t lo2 ?_
  rw [hx.tr]
  refine r_imul 14 dX6_tracedBy_13 rfl ?_
  refine r_iload_n 15 dX6_tracedBy_14 rfl rfl lo1 ?_
  refine r_iadd 16 dX6_tracedBy_15 rfl ?_
  refine rx_trace 19 dX6_tracedBy_16 rfl hx Fx.rf gN_X6_38_0 ?_
  refine r_iconst 20 dX6_tracedBy_19 rfl ic_0 ?_
  exact r_iret dX6_tracedBy_20 rfl (Nat.le_refl _) (Nat.le_refl _) ⟨rfl, _, hx.trace _, Fx.rf.atw _, (hp_up_n hne).trans hA⟩

set_option maxHeartbeats 4000000 in
theorem ev_X6_said {w : WE} {A : Hp} {a k : Nat} {q : Rd} {x : XT} {S : ST} (hA : A.1 a = some (rdE (wb w) k q)) (hk : q.1 ≤ 2) (hx : XS w A x S) : EvP w mX6_said 1 0 0 [.ref a] A (some (.int (nI q.2.2.2.2.1))) (TrP w A a k q S (tb S.2.2.2.1 1)) := by
  refine Ev.mk 0 [some (.ref a)] rfl plX6 (Nat.le_of_ble_eq_true rfl) ?_
  refine r_aload_n 1 dX6_said_0 rfl rfl lo0 ?_
  refine r_iconst 2 dX6_said_1 rfl ic_1 ?_
  refine rRx1 5 dX6_said_2 rfl sV_X6_41_3 sU_X6_41_4 sU_X6_41_5 hA hk (by rfl) (ev_X6_tracedBy hA hk hx) (fun A hP => ?_)
  obtain ⟨x1, hx, hF, hA⟩ := hP
  refine r_aload_n 6 dX6_said_5 rfl rfl lo0 ?_
  refine r_get 9 dX6_said_6 rfl (gR_X6_28 hk) hA lo4 ?_
  first | refine r_iaddN 10 dX6_said_9 rfl ?_ | refine r_iadd 10 dX6_said_9 rfl ?_
  exact r_iret dX6_said_10 rfl (Nat.le_refl _) (Nat.le_refl _) ⟨rq (congrArg nI (by omega)), x1, hx, hF, hA⟩

set_option maxHeartbeats 4000000 in
theorem ev_X7_plainly {w : WE} {A : Hp} {a k : Nat} {q : Rd} {x : XT} {S : ST} (hA : A.1 a = some (rdE (wb w) k q)) (hk : q.1 ≤ 2) (hx : XS w A x S) : EvP w mX7_plainly 2 0 0 [.ref a] A (some (.int (nI q.2.2.2.2.1))) (TrP w A a k q S (tb S.2.2.2.1 1)) := by
  refine Ev.mk 0 [some (.ref a)] rfl plX7 (Nat.le_of_ble_eq_true rfl) ?_
  refine r_aload_n 1 dX7_plainly_0 rfl rfl lo0 ?_
  refine rx_P0x 4 dX7_plainly_1 rfl sP_X7_24 hA (by rfl) (ev_X6_said hA hk hx) (fun A hP => ?_)
  obtain ⟨x1, hx, hF1, hA⟩ := hP
  exact r_iret dX7_plainly_4 rfl (Nat.le_refl _) (Nat.le_refl _) ⟨rfl, x1, hx, hF1, hA⟩

set_option maxHeartbeats 4000000 in
theorem ev_X7_said {w : WE} {A : Hp} {a k : Nat} {q : Rd} {x : XT} {S : ST} (hA : A.1 a = some (rdE (wb w) k q)) (hk : q.1 ≤ 2) (hx : XS w A x S) (h1 : q.1 = 1 ∨ q.1 = 2) : EvP w mX7_said 2 0 0 [.ref a] A (some (.int (nI (q.2.2.2.2.1 + 100)))) (TrP w A a k q S (tb (tb S.2.2.2.1 2) 1)) := by
  refine Ev.mk 0 [some (.ref a)] rfl plX7 (Nat.le_of_ble_eq_true rfl) ?_
  refine r_aload_n 1 dX7_said_0 rfl rfl lo0 ?_
  refine r_iconst 2 dX7_said_1 rfl ic_2 ?_
  refine rRx1b 5 dX7_said_2 rfl sU_X7_21_4 sU_X7_21_5 hA h1 (by rfl) (ev_X6_tracedBy hA hk hx) (fun A hP => ?_)
  obtain ⟨x1, hx, hF1, hA⟩ := hP
  refine r_aload_n 6 dX7_said_5 rfl rfl lo0 ?_
  refine rx_P0x 9 dX7_said_6 rfl sP_X7_24 hA (by rfl) (ev_X6_said hA hk hx) (fun A hP => ?_)
  obtain ⟨x2, hx, hF2, hA⟩ := hP
  first | refine r_iaddN 10 dX7_said_9 rfl ?_ | refine r_iadd 10 dX7_said_9 rfl ?_
  refine r_bipush 12 dX7_said_10 rfl bi_100 ?_
  first | refine r_iaddN 13 dX7_said_12 rfl ?_ | refine r_iadd 13 dX7_said_12 rfl ?_
  exact r_iret dX7_said_13 rfl (Nat.le_refl _) (Nat.le_refl _) ⟨rq (congrArg nI (by omega)), x2, hx, hF1.tr hF2, hA⟩

set_option maxHeartbeats 4000000 in
theorem ev_X8_said {w : WE} {A : Hp} {a k : Nat} {q : Rd} {x : XT} {S : ST} (hA : A.1 a = some (rdE (wb w) k q)) (hk : q.1 ≤ 2) (hx : XS w A x S) (h1 : q.1 = 2) : EvP w mX8_said 3 0 0 [.ref a] A (some (.int (nI (2 * q.2.2.2.2.1 + 100)))) (TrP w A a k q S (tb (tb (tb (tb S.2.2.2.1 3) 2) 1) 1)) := by
  refine Ev.mk 0 [some (.ref a)] rfl plX8 (Nat.le_of_ble_eq_true rfl) ?_
  refine r_aload_n 1 dX8_said_0 rfl rfl lo0 ?_
  refine r_iconst 2 dX8_said_1 rfl ic_3 ?_
  refine rx_U1x 5 dX8_said_2 rfl sU_X8_23_5 (show A.1 a = some (.inr (5, rdF (wb w) k q)) from hA.trans (congrArg some (rdE_c h1))) (by rfl) (ev_X6_tracedBy hA hk hx) (fun A hP => ?_)
  obtain ⟨x1, hx, hF1, hA⟩ := hP
  refine r_aload_n 6 dX8_said_5 rfl rfl lo0 ?_
  refine rx_P0x 9 dX8_said_6 rfl sP_X8_26 hA (by rfl) (ev_X7_said hA hk hx (Or.inr h1)) (fun A hP => ?_)
  obtain ⟨x2, hx, hF2, hA⟩ := hP
  first | refine r_iaddN 10 dX8_said_9 rfl ?_ | refine r_iadd 10 dX8_said_9 rfl ?_
  refine r_aload_n 11 dX8_said_10 rfl rfl lo0 ?_
  refine rx_U0x 14 dX8_said_11 rfl sU_X8_30_5 (show A.1 a = some (.inr (5, rdF (wb w) k q)) from hA.trans (congrArg some (rdE_c h1))) (by rfl) (ev_X7_plainly hA hk hx) (fun A hP => ?_)
  obtain ⟨x3, hx, hF3, hA⟩ := hP
  first | refine r_iaddN 15 dX8_said_14 rfl ?_ | refine r_iadd 15 dX8_said_14 rfl ?_
  exact r_iret dX8_said_15 rfl (Nat.le_refl _) (Nat.le_refl _) ⟨rq (congrArg nI (by omega)), x3, hx, (hF1.tr hF2).tr hF3, hA⟩

set_option maxHeartbeats 4000000 in
theorem ev_X8_staked {w : WE} {A : Hp} {a k : Nat} {q : Rd} {x : XT} {S : ST} (hA : A.1 a = some (rdE (wb w) k q)) (hk : q.1 ≤ 2) (hx : XS w A x S) (h1 : q.1 = 2) : EvP w mX8_staked 1 0 0 [.ref a] A (some (.int (nI 40))) (TrP w A a k q S (tb S.2.2.2.1 5)) := by
  refine Ev.mk 0 [some (.ref a)] rfl plX8 (Nat.le_of_ble_eq_true rfl) ?_
  refine r_aload_n 1 dX8_staked_0 rfl rfl lo0 ?_
  refine r_iconst 2 dX8_staked_1 rfl ic_5 ?_
  refine rx_U1x 5 dX8_staked_2 rfl sU_X8_23_5 (show A.1 a = some (.inr (5, rdF (wb w) k q)) from hA.trans (congrArg some (rdE_c h1))) (by rfl) (ev_X6_tracedBy hA hk hx) (fun A hP => ?_)
  obtain ⟨x1, hx, hF1, hA⟩ := hP
  refine r_bipush 7 dX8_staked_5 rfl bi_40 ?_
  first | refine r_iaddN 8 dX8_staked_7 rfl ?_ | refine r_iadd 8 dX8_staked_7 rfl ?_
  exact r_iret dX8_staked_8 rfl (Nat.le_refl _) (Nat.le_refl _) ⟨rq (congrArg nI (by omega)), x1, hx, hF1, hA⟩

set_option maxHeartbeats 4000000 in
theorem ev_X0_tell {w : WE} {A : Hp} {x : XT} {S : ST} {v : Int32} (hx : XS w A x S) : EvP w mX0_tell 4 0 0 [.ref (wb w), .int v] A (some (.int (sp_tell S v).1)) (fun A' => ∃ x' : XT, XS w A' x' (sp_tell S v).2 ∧ Fx w A A') := by
  refine Ev.mk 0 [some (.ref (wb w)), some (.int v)] rfl plX0 (Nat.le_of_ble_eq_true rfl) ?_
  obtain ⟨cr, pr, gr, r1, r2, r3, r4, r5⟩ := hx.rl.use
  have hl10 := hx.ok.2.2.2.1
  refine r_aload_n 1 dX0_tell_0 rfl rfl lo0 ?_
  refine r_iload_n 2 dX0_tell_1 rfl rfl lo1 ?_
  refine r_cV1 5 dX0_tell_2 rfl sV_X0_158_0 hx.t (by rfl) (ev_X0_noRoad hx) ?_
  refine r_if_eqB 12 8 dX0_tell_5 rfl (by decide) (fun hc5 => ?_) (fun hc5 => ?_)
  · obtain ⟨j, q, hj, rfl, hq, hix⟩ := ix_ok (l := S.2.2.1) (x := v) (by have := btw_t.mp (by simpa using hc5); omega)
    have hrd := hx.rd j q hq
    have hrk := hx.rok hq
    have hk := hrk.1
    have h0 : (q.1 = 0 → q.2.2.2.2.2 = 0) ∧ RdOk S.1 q := ⟨(hx.ok.1.2 q (List.mem_of_getElem? hq)).2, hrk⟩
    have e0 : q.1 = 0 → sp_tell S (nI j) = (nI q.2.2.2.2.1, sT S (tb S.2.2.2.1 1)) := fun e => by
      unfold sp_tell
      rw [hix]
      dsimp only
      rw [if_neg (by omega), if_neg (by omega)]
    have e1 : q.1 = 1 → sp_tell S (nI j) = (nI (q.2.2.2.2.1 + 100), sT S (tb (tb S.2.2.2.1 2) 1)) := fun e => by
      unfold sp_tell
      rw [hix]
      dsimp only
      rw [if_pos e]
    have e2 : q.1 = 2 → sp_tell S (nI j) = (nI (2 * q.2.2.2.2.1 + 100), sT S (tb (tb (tb (tb S.2.2.2.1 3) 2) 1) 1)) := fun e => by
      unfold sp_tell
      rw [hix]
      dsimp only
      rw [if_neg (by omega), if_pos e]
    refine r_aload_n 13 dX0_tell_12 rfl rfl lo0 ?_
    refine r_get 16 dX0_tell_13 rfl g_X0_28_0 hx.t lo3 ?_
    refine r_iload_n 17 dX0_tell_16 rfl rfl lo1 ?_
    refine r_cF1 22 dX0_tell_17 rfl sF_X0_112_7 r1 (by rfl) (ev_J2_get r1 r2 hj r3 (by omega) (r5 j hj)) ?_
    refine r_castY 25 dX0_tell_22 rfl (sC_X0_147 hk) hrd.2 ?_
    refine rRy0 (d3 := 1) (d4 := 2) (d5 := 3) (mc' := 0) (ms' := 0) (r := .int (sp_tell S (nI j)).1) (P := fun A' => ∃ x' : XT, XS w A' x' (sp_tell S (nI j)).2 ∧ Fx w A A') 28 dX0_tell_25 rfl sV_X0_337_3 sU_X0_337_4 sU_X0_337_5 hrd.2 hk (by rfl) (by rfl) (by rfl) (fun e => ?_) (fun e => ?_) (fun e => ?_) (fun A hP => ?_)
    · rw [e0 e]
      exact (ev_X6_said hrd.2 hk hx).post (fun r A' h => ⟨h.1, by obtain ⟨-, x', h1, h2, -⟩ := h; exact ⟨x', h1, h2⟩⟩)
    · rw [e1 e]
      exact (ev_X7_said hrd.2 hk hx (Or.inl e)).post (fun r A' h => ⟨h.1, by obtain ⟨-, x', h1, h2, -⟩ := h; exact ⟨x', h1, h2⟩⟩)
    · rw [e2 e]
      exact (ev_X8_said hrd.2 hk hx e).post (fun r A' h => ⟨h.1, by obtain ⟨-, x', h1, h2, -⟩ := h; exact ⟨x', h1, h2⟩⟩)
    exact r_iret dX0_tell_28 rfl (Nat.le_refl _) (Nat.le_refl _) (by first | exact ⟨rfl, hP⟩ | (have e : sp_tell S v = (-1, S) := by { unfold sp_tell; rw [ix_no (by exact btw_f.mp (by simpa using hc5))] }; rw [e]; exact ⟨rfl, x, hx, Fx.rf⟩))
  · refine r_iconst 9 dX0_tell_8 rfl ic_m1 ?_
    refine r_goto 28 dX0_tell_9 (by decide) ?_
    exact r_iret dX0_tell_28 rfl (Nat.le_refl _) (Nat.le_refl _) (by first | exact ⟨rfl, hP⟩ | (have e : sp_tell S v = (-1, S) := by { unfold sp_tell; rw [ix_no (by exact btw_f.mp (by simpa using hc5))] }; rw [e]; exact ⟨rfl, x, hx, Fx.rf⟩))

set_option maxHeartbeats 4000000 in
theorem ev_X0_mend {w : WE} {A : Hp} {x : XT} {S : ST} {v : Int32} (hx : XS w A x S) (h9 : ∀ q ∈ S.2.2.1, q.2.2.2.2.2 ≤ 9) : EvP w mX0_mend 3 0 0 [.ref (wb w), .int v] A (some (.int (sp_mend S v).1)) (fun A' => ∃ x' : XT, XS w A' x' (sp_mend S v).2 ∧ Fx w A A') := by
  refine Ev.mk 1 [some (.ref (wb w)), some (.int v), none] rfl plX0 (Nat.le_of_ble_eq_true rfl) ?_
  obtain ⟨cr, pr, gr, r1, r2, r3, r4, r5⟩ := hx.rl.use
  have hl10 := hx.ok.2.2.2.1
  refine r_aload_n 1 dX0_mend_0 rfl rfl lo0 ?_
  refine r_iload_n 2 dX0_mend_1 rfl rfl lo1 ?_
  refine r_cV1 5 dX0_mend_2 rfl sV_X0_158_0 hx.t (by rfl) (ev_X0_noRoad hx) ?_
  refine r_if_eqB 10 8 dX0_mend_5 rfl (by decide) (fun hc5 => ?_) (fun hc5 => ?_)
  · obtain ⟨j, q, hj, rfl, hq, hix⟩ := ix_ok (l := S.2.2.1) (x := v) (by have := btw_t.mp (by simpa using hc5); omega)
    have hrd := hx.rd j q hq
    have hrk := hx.rok hq
    have hk := hrk.1
    have h0 : (q.1 = 0 → q.2.2.2.2.2 = 0) ∧ RdOk S.1 q := ⟨(hx.ok.1.2 q (List.mem_of_getElem? hq)).2, hrk⟩
    have k1 := h9 q (List.mem_of_getElem? hq)
    refine r_aload_n 11 dX0_mend_10 rfl rfl lo0 ?_
    refine r_get 14 dX0_mend_11 rfl g_X0_28_0 hx.t lo3 ?_
    refine r_iload_n 15 dX0_mend_14 rfl rfl lo1 ?_
    refine r_cF1 20 dX0_mend_15 rfl sF_X0_112_7 r1 (by rfl) (ev_J2_get r1 r2 hj r3 (by omega) (r5 j hj)) ?_
    refine r_castY 23 dX0_mend_20 rfl (sC_X0_147 hk) hrd.2 ?_
    refine r_astore_n 24 dX0_mend_23 rfl rfl so2 rfl ?_
    refine r_aload_n 25 dX0_mend_24 rfl rfl lo2 ?_
    refine rR0 28 dX0_mend_25 rfl sV_X0_164_3 sU_X0_164_4 sU_X0_164_5 hrd.2 hk (by rfl) (by rfl) (by rfl) ev_R_kind0 ev_R_kind1 ev_R_kind2 ?_
    first | refine r_if_neN 34 31 dX0_mend_28 rfl (by decide) (by omega) (fun hc28 => ?_) (fun hc28 => ?_) | refine r_if_ne 34 31 dX0_mend_28 rfl (by decide) (fun hc28 => ?_) (fun hc28 => ?_)
    · refine r_aload_n 35 dX0_mend_34 rfl rfl lo2 ?_
      refine r_get 38 dX0_mend_35 rfl (gR_X0_167 hk) hrd.2 lo5 ?_
      refine r_bipush 40 dX0_mend_38 rfl bi_9 ?_
      first | refine r_icmp_neN 46 43 dX0_mend_40 rfl (by decide) (by omega) (by omega) (fun hc40 => ?_) (fun hc40 => ?_) | refine r_icmp_ne 46 43 dX0_mend_40 rfl (by decide) (fun hc40 => ?_) (fun hc40 => ?_)
      · refine r_aload_n 47 dX0_mend_46 rfl rfl lo2 ?_
        refine r_dup 48 dX0_mend_47 rfl rfl ?_
        refine r_get 51 dX0_mend_48 rfl (gR_X0_167 hk) hrd.2 lo5 ?_
        refine r_iconst 52 dX0_mend_51 rfl ic_1 ?_
        first | refine r_iaddN 53 dX0_mend_52 rfl ?_ | refine r_iadd 53 dX0_mend_52 rfl ?_
        refine rR_put 56 dX0_mend_53 rfl (gR_X0_167 hk) hk hrd.2 (dyn_wb hrd.1) ?_
        refine r_aload_n 57 dX0_mend_56 rfl rfl lo2 ?_
        refine r_get 60 dX0_mend_57 rfl (gR_X0_167 hk) hp_up_s lo5 ?_
        exact r_iret dX0_mend_60 rfl (Nat.le_refl _) (Nat.le_refl _) (by have e : sp_mend S (nI j) = (nI (q.2.2.2.2.2 + 1), sR S (S.2.2.1.set j (md q))) := by { unfold sp_mend; rw [hix]; dsimp only; rw [if_neg hc28, if_neg hc40, nI_nat (by omega)] }; rw [e]; exact ⟨rfl, x, hx.rdx hq _ (hx.ok.mend hq (by omega) (Or.inl hc28)), Fx.up (Or.inr hrd.1)⟩)
      · refine r_bipush 45 dX0_mend_43 rfl bi_m4 ?_
        exact r_iret dX0_mend_45 rfl (Nat.le_refl _) (Nat.le_refl _) (by have e : sp_mend S (nI j) = (-4, S) := by { unfold sp_mend; rw [hix]; dsimp only; rw [if_neg hc28, if_pos hc40] }; rw [e]; exact ⟨rfl, x, hx, Fx.rf⟩)
    · refine r_bipush 33 dX0_mend_31 rfl bi_m3 ?_
      exact r_iret dX0_mend_33 rfl (Nat.le_refl _) (Nat.le_refl _) (by have e : sp_mend S (nI j) = (-3, S) := by { unfold sp_mend; rw [hix]; dsimp only; rw [if_pos hc28] }; rw [e]; exact ⟨rfl, x, hx, Fx.rf⟩)
  · refine r_iconst 9 dX0_mend_8 rfl ic_m1 ?_
    exact r_iret dX0_mend_9 rfl (Nat.le_refl _) (Nat.le_refl _) (by have e : sp_mend S v = (-1, S) := by { unfold sp_mend; rw [ix_no (by exact btw_f.mp (by simpa using hc5))] }; rw [e]; exact ⟨rfl, x, hx, Fx.rf⟩)

set_option maxHeartbeats 4000000 in
theorem ev_X0_saves {w : WE} {A : Hp} {x : XT} {S : ST} {v f t hour : Int32} (hx : XS w A x S) (h9 : ∀ q ∈ S.2.2.1, q.2.2.2.2.2 ≤ 9) : EvP w mX0_saves 6 0 0 [.ref (wb w), .int v, .int f, .int t, .int hour] A (some (.int (sp_saves S v f t hour))) (fun A' => ∃ x' : XT, XS w A' x' S ∧ Fx w A A') := by
  refine Ev.mk 2 [some (.ref (wb w)), some (.int v), some (.int f), some (.int t), some (.int hour), none, none] rfl plX0 (Nat.le_of_ble_eq_true rfl) ?_
  obtain ⟨cr, pr, gr, r1, r2, r3, r4, r5⟩ := hx.rl.use
  have hl10 := hx.ok.2.2.2.1
  have hi6 := hx.le
  refine r_aload_n 1 dX0_saves_0 rfl rfl lo0 ?_
  refine r_iload_n 2 dX0_saves_1 rfl rfl lo1 ?_
  refine r_cV1 5 dX0_saves_2 rfl sV_X0_158_0 hx.t (by rfl) (ev_X0_noRoad hx) ?_
  refine r_if_neB 24 8 dX0_saves_5 rfl (by decide) (fun hc5 => ?_) (fun hc5 => ?_)
  · refine r_iconst 25 dX0_saves_24 rfl ic_m1 ?_
    exact r_iret dX0_saves_25 rfl (Nat.le_refl _) (Nat.le_refl _) ⟨rq (by unfold sp_saves; first | rw [ix_no (by exact btw_f.mp (by simpa using hc5))] | (obtain ⟨j, q, hj, rfl, hq, hix⟩ := ix_ok (l := S.2.2.1) (x := v) (by have := btw_t.mp (by simpa using hc5); omega); rw [hix]; dsimp only; rw [if_pos (by first | exact Or.inl (by rw [nb_f hc13]; decide) | exact Or.inr (by rw [nb_f hc21]; decide))])), x, hx, Fx.rf⟩
  · refine r_aload_n 9 dX0_saves_8 rfl rfl lo0 ?_
    refine r_iload_n 10 dX0_saves_9 rfl rfl lo2 ?_
    refine r_cV1 13 dX0_saves_10 rfl sV_X0_142_0 hx.t (by rfl) (ev_X0_noIsland hx) ?_
    refine r_if_neB 24 16 dX0_saves_13 rfl (by decide) (fun hc13 => ?_) (fun hc13 => ?_)
    · refine r_iconst 25 dX0_saves_24 rfl ic_m1 ?_
      exact r_iret dX0_saves_25 rfl (Nat.le_refl _) (Nat.le_refl _) ⟨rq (by unfold sp_saves; first | rw [ix_no (by exact btw_f.mp (by simpa using hc5))] | (obtain ⟨j, q, hj, rfl, hq, hix⟩ := ix_ok (l := S.2.2.1) (x := v) (by have := btw_t.mp (by simpa using hc5); omega); rw [hix]; dsimp only; rw [if_pos (by first | exact Or.inl (by rw [nb_f hc13]; decide) | exact Or.inr (by rw [nb_f hc21]; decide))])), x, hx, Fx.rf⟩
    · refine r_aload_n 17 dX0_saves_16 rfl rfl lo0 ?_
      refine r_iload_n 18 dX0_saves_17 rfl rfl lo3 ?_
      refine r_cV1 21 dX0_saves_18 rfl sV_X0_142_0 hx.t (by rfl) (ev_X0_noIsland hx) ?_
      refine r_if_eqB 26 24 dX0_saves_21 rfl (by decide) (fun hc21 => ?_) (fun hc21 => ?_)
      · refine r_iload 28 dX0_saves_26 rfl lo4 ?_
        refine r_cS1 31 dX0_saves_28 rfl sS_X0_125 (by rfl) ev_X0_isHour ?_
        refine r_if_neB 37 34 dX0_saves_31 rfl (by decide) (fun hc31 => ?_) (fun hc31 => ?_)
        · replace hc13 := nb_t hc13
          replace hc21 := nb_t hc21
          obtain ⟨f, hf0, rfl⟩ := isI_nat hc13 hi6
          obtain ⟨t, ht0, rfl⟩ := isI_nat hc21 hi6
          obtain ⟨h, hh, rfl⟩ := hr_ok hc31
          obtain ⟨j, q, hj, rfl, hq, hix⟩ := ix_ok (l := S.2.2.1) (x := v) (by have := btw_t.mp (by simpa using hc5); omega)
          have hrd := hx.rd j q hq
          have hrk := hx.rok hq
          have hk := hrk.1
          have h0 : (q.1 = 0 → q.2.2.2.2.2 = 0) ∧ RdOk S.1 q := ⟨(hx.ok.1.2 q (List.mem_of_getElem? hq)).2, hrk⟩
          have k1 := h9 q (List.mem_of_getElem? hq)
          refine r_aload_n 38 dX0_saves_37 rfl rfl lo0 ?_
          refine r_get 41 dX0_saves_38 rfl g_X0_28_0 hx.t lo3 ?_
          refine r_iload_n 42 dX0_saves_41 rfl rfl lo1 ?_
          refine r_cF1 47 dX0_saves_42 rfl sF_X0_112_7 r1 (by rfl) (ev_J2_get r1 r2 hj r3 (by omega) (r5 j hj)) ?_
          refine r_castY 50 dX0_saves_47 rfl (sC_X0_147 hk) hrd.2 ?_
          refine r_astore 52 dX0_saves_50 rfl so5 rfl ?_
          refine r_aload 54 dX0_saves_52 rfl lo5 ?_
          refine rR0 57 dX0_saves_54 rfl sV_X0_164_3 sU_X0_164_4 sU_X0_164_5 hrd.2 hk (by rfl) (by rfl) (by rfl) ev_R_kind0 ev_R_kind1 ev_R_kind2 ?_
          first | refine r_if_neN 63 60 dX0_saves_57 rfl (by decide) (by omega) (fun hc57 => ?_) (fun hc57 => ?_) | refine r_if_ne 63 60 dX0_saves_57 rfl (by decide) (fun hc57 => ?_) (fun hc57 => ?_)
          · have hok0 := hx.ok
            have hokm := hx.ok.mend hq (v := q.2.2.2.2.2 + 1) (by omega) (Or.inl hc57)
            have hq2 : (S.2.2.1.set j (md q))[j]? = some (md q) := by rw [List.getElem?_set, if_pos rfl, if_pos hj]
            refine r_aload_n 64 dX0_saves_63 rfl rfl lo0 ?_
            refine r_iconst 65 dX0_saves_64 rfl ic_0 ?_
            refine rx_V1v 68 dX0_saves_65 rfl sV_X0_209_0 hx.t (by rfl) (ev_X0_layAll (herd := false) hx) (fun A hP => ?_)
            obtain ⟨x1, hx, hF, e1, e2, e3, hlv, hJ⟩ := hP
            rw [← e2]
            refine r_aload_n 69 dX0_saves_68 rfl rfl lo0 ?_
            refine r_iload_n 70 dX0_saves_69 rfl rfl lo2 ?_
            refine r_iload 72 dX0_saves_70 rfl lo4 ?_
            refine r_iconst 73 dX0_saves_72 rfl ic_0 ?_
            refine rx_V3v 76 dX0_saves_73 rfl sV_X0_213_0 hx.t (by rfl) (ev_X0_go (herd := false) (f := f) (h := h) hx hJ (by omega) (by omega)) (fun A hP => ?_)
            obtain ⟨g, hx, hF2, hg⟩ := hP
            have hF := hF.tr hF2
            have hrd := hx.rd j q hq
            have hcl := cp_le (t := bfS S false f h t)
            refine r_aload_n 77 dX0_saves_76 rfl rfl lo0 ?_
            refine r_get 80 dX0_saves_77 rfl g_X0_40_0 hx.t lo6 ?_
            refine r_iload_n 81 dX0_saves_80 rfl rfl lo3 ?_
            refine r_ialdv 82 dX0_saves_81 rfl hx.a15 _ rfl (show g t = _ from hg t ht0) (by omega) (by decide) ?_
            refine r_istore 84 dX0_saves_82 rfl so6 rfl ?_
            refine r_aload 86 dX0_saves_84 rfl lo5 ?_
            refine r_dup 87 dX0_saves_86 rfl rfl ?_
            refine r_get 90 dX0_saves_87 rfl (gR_X0_167 hk) hrd.2 lo5 ?_
            refine r_iconst 91 dX0_saves_90 rfl ic_1 ?_
            first | refine r_iaddN 92 dX0_saves_91 rfl ?_ | refine r_iadd 92 dX0_saves_91 rfl ?_
            refine rR_put 95 dX0_saves_92 rfl (gR_X0_167 hk) hk hrd.2 (dyn_wb hrd.1) ?_
            refine r_eqI (I := fun A' => XS w A' (xr x1 15 g) (sR S (S.2.2.1.set j (md q))) ∧ Fx w _ A') ⟨hx.rdx hq _ hokm, hF.tr (Fx.up (Or.inr hrd.1))⟩ (fun A hI => ?_)
            obtain ⟨hx, hF⟩ := hI
            refine r_aload_n 96 dX0_saves_95 rfl rfl lo0 ?_
            refine r_aload 98 dX0_saves_96 rfl lo5 ?_
            refine r_iconst 99 dX0_saves_98 rfl ic_0 ?_
            refine rx_V2v 102 dX0_saves_99 rfl sV_X0_191_0 hx.t (by rfl) (ev_X0_layStarts (x := xr x1 15 g) (S := (sR S (S.2.2.1.set j (md q)))) (herd := false) hx hq2 (show LvX (xr x1 15 g) S.2.1 from hlv)) (fun A hP => ?_)
            obtain ⟨f2, hx, hF3, hf2⟩ := hP
            have hF := hF.tr hF3
            have hrd := hx.rd j (md q) hq2
            refine r_aload 104 dX0_saves_102 rfl lo5 ?_
            refine r_dup 105 dX0_saves_104 rfl rfl ?_
            refine r_get 108 dX0_saves_105 rfl (gR_X0_167 hk) hrd.2 lo5 ?_
            refine r_iconst 109 dX0_saves_108 rfl ic_1 ?_
            refine r_isubN 110 dX0_saves_109 rfl (show 1 ≤ q.2.2.2.2.2 + 1 by omega) ?_
            refine rR_put (q := md q) (v := q.2.2.2.2.2 + 1 - 1) 113 dX0_saves_110 rfl (gR_X0_167 hk) hk hrd.2 (dyn_wb hrd.1) ?_
            have z : XS w (hp_up A (x1.2.2.2.2.1 j) (rdE (wb w) j q)) (xr (xr x1 15 g) (5 + j) f2) S := by
              have z := hx.rdx hq2 (q.2.2.2.2.2 + 1 - 1) (by show StOk (sR S ((S.2.2.1.set j (md q)).set j (mdv (md q) (q.2.2.2.2.2 + 1 - 1)))); rw [show mdv (md q) (q.2.2.2.2.2 + 1 - 1) = q from rfl, set_back hq]; exact hok0)
              replace z : XS w (hp_up A (x1.2.2.2.2.1 j) (rdE (wb w) j q)) (xr (xr x1 15 g) (5 + j) f2) (sR S ((S.2.2.1.set j (md q)).set j q)) := z
              rw [set_back hq] at z
              exact z
            refine r_eqI (I := fun A' => XS w A' (xr (xr x1 15 g) (5 + j) f2) S ∧ Fx w _ A') ⟨z, hF.tr (Fx.up (Or.inr hrd.1))⟩ (fun A hI => ?_)
            obtain ⟨hx, hF⟩ := hI
            have hsm : SimR S.2.2.1 (S.2.2.1.set j (md q)) := ⟨(List.length_set ..).symm, fun i p hp => by
              rw [List.getElem?_set]
              by_cases e : j = i
              · subst e
                cases hq.symm.trans hp
                exact ⟨md q, by rw [if_pos rfl, if_pos hj], rfl, rfl, rfl⟩
              · exact ⟨p, by rw [if_neg e]; exact hp, rfl, rfl, rfl⟩⟩
            have hJ2 : ∀ r p, (S.2.2.1.set j (md q))[r]? = some p → StX (xr (xr x1 15 g) (5 + j) f2) S.2.1 false r p := fun r p hp => by
              rw [List.getElem?_set] at hp
              by_cases e : j = r
              · subst e
                rw [if_pos rfl, if_pos hj] at hp
                cases hp
                intro u hu
                show va_up _ (5 + j) f2 (5 + j) u = _
                rw [va_us]
                exact hf2 u hu
              · rw [if_neg e] at hp
                have hr := (List.getElem?_eq_some_iff.mp hp).1
                intro u hu
                show va_up (va_up x1.2.1 15 g) (5 + j) f2 (5 + r) u = _
                rw [va_un (by omega), va_un (by omega)]
                exact hJ r p hp u hu
            refine r_aload_n 114 dX0_saves_113 rfl rfl lo0 ?_
            refine r_iload_n 115 dX0_saves_114 rfl rfl lo2 ?_
            refine r_iload 117 dX0_saves_115 rfl lo4 ?_
            refine r_iconst 118 dX0_saves_117 rfl ic_0 ?_
            refine rx_V3v 121 dX0_saves_118 rfl sV_X0_213_0 hx.t (by rfl) (ev_X0_go2 (herd := false) (f := f) (h := h) (rs' := S.2.2.1.set j (md q)) hx hokm.2.2.2.2 hJ2 hsm (by omega) (by omega)) (fun A hP => ?_)
            obtain ⟨g2, hx, hF4, hg2⟩ := hP
            have hF := hF.tr hF4
            have hcl2 := cp_le (t := bf S.1 S.2.1 false (S.2.2.1.set j (md q)) f h t)
            refine r_aload_n 122 dX0_saves_121 rfl rfl lo0 ?_
            refine r_get 125 dX0_saves_122 rfl g_X0_40_0 hx.t lo6 ?_
            refine r_iload_n 126 dX0_saves_125 rfl rfl lo3 ?_
            refine r_ialdv 127 dX0_saves_126 rfl hx.a15 _ rfl (show g2 t = _ from hg2 t ht0) (by omega) (by decide) ?_
            refine r_sipush 130 dX0_saves_127 rfl si_2001 ?_
            first | refine r_icmp_neN 138 133 dX0_saves_130 rfl (by decide) (by omega) (by omega) (fun hc130 => ?_) (fun hc130 => ?_) | refine r_icmp_ne 138 133 dX0_saves_130 rfl (by decide) (fun hc130 => ?_) (fun hc130 => ?_)
            · refine r_iload 140 dX0_saves_138 rfl lo6 ?_
              refine r_aload_n 141 dX0_saves_140 rfl rfl lo0 ?_
              refine r_get 144 dX0_saves_141 rfl g_X0_40_0 hx.t lo6 ?_
              refine r_iload_n 145 dX0_saves_144 rfl rfl lo3 ?_
              refine r_ialdv 146 dX0_saves_145 rfl hx.a15 _ rfl (show g2 t = _ from hg2 t ht0) (by omega) (by decide) ?_
              refine r_isub 147 dX0_saves_146 rfl ?_
              exact r_iret dX0_saves_147 rfl (Nat.le_refl _) (Nat.le_refl _) ⟨rq (by unfold sp_saves; rw [hix]; dsimp only; rw [if_neg (fun h => h.elim (fun a => a hc13) (fun a => a hc21)), if_neg (fun h => h hc31), if_neg hc57, nI_nat (j := f) (by omega), nI_nat (j := t) (by omega), nI_nat (j := h) (by omega), nI_nat (j := j) (by omega)]; first | rw [if_pos (cp_9.mp hc130)] | (rw [if_neg (fun u => hc130 (cp_9.mpr u)), cp_s (t := bf S.1 S.2.1 false (S.2.2.1.set j (md q)) f h t) (fun u => hc130 (cp_9.mpr u))]; rfl)), _, hx, hF⟩
            · refine r_bipush 135 dX0_saves_133 rfl bi_m9 ?_
              refine r_goto 147 dX0_saves_135 (by decide) ?_
              exact r_iret dX0_saves_147 rfl (Nat.le_refl _) (Nat.le_refl _) ⟨rq (by unfold sp_saves; rw [hix]; dsimp only; rw [if_neg (fun h => h.elim (fun a => a hc13) (fun a => a hc21)), if_neg (fun h => h hc31), if_neg hc57, nI_nat (j := f) (by omega), nI_nat (j := t) (by omega), nI_nat (j := h) (by omega), nI_nat (j := j) (by omega)]; first | rw [if_pos (cp_9.mp hc130)] | (rw [if_neg (fun u => hc130 (cp_9.mpr u)), cp_s (t := bf S.1 S.2.1 false (S.2.2.1.set j (md q)) f h t) (fun u => hc130 (cp_9.mpr u))]; rfl)), _, hx, hF⟩
          · refine r_bipush 62 dX0_saves_60 rfl bi_m3 ?_
            exact r_iret dX0_saves_62 rfl (Nat.le_refl _) (Nat.le_refl _) ⟨rq (by unfold sp_saves; rw [hix]; dsimp only; rw [if_neg (fun h => h.elim (fun a => a hc13) (fun a => a hc21)), if_neg (fun h => h hc31), if_pos hc57]), x, hx, Fx.rf⟩
        · refine r_bipush 36 dX0_saves_34 rfl bi_m2 ?_
          exact r_iret dX0_saves_36 rfl (Nat.le_refl _) (Nat.le_refl _) ⟨rq (by unfold sp_saves; obtain ⟨j, q, hj, rfl, hq, hix⟩ := ix_ok (l := S.2.2.1) (x := v) (by have := btw_t.mp (by simpa using hc5); omega); rw [hix]; dsimp only; rw [if_neg (fun h => h.elim (fun a => a (nb_t hc13)) (fun a => a (nb_t hc21))), if_pos (by rw [hc31]; decide)]), x, hx, Fx.rf⟩
      · refine r_iconst 25 dX0_saves_24 rfl ic_m1 ?_
        exact r_iret dX0_saves_25 rfl (Nat.le_refl _) (Nat.le_refl _) ⟨rq (by unfold sp_saves; first | rw [ix_no (by exact btw_f.mp (by simpa using hc5))] | (obtain ⟨j, q, hj, rfl, hq, hix⟩ := ix_ok (l := S.2.2.1) (x := v) (by have := btw_t.mp (by simpa using hc5); omega); rw [hix]; dsimp only; rw [if_pos (by first | exact Or.inl (by rw [nb_f hc13]; decide) | exact Or.inr (by rw [nb_f hc21]; decide))])), x, hx, Fx.rf⟩

