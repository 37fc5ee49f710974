/-! THE CLASS: cellsOf -/
set_option maxRecDepth 100000
theorem ev_X0_cellI0 {w : WE} {A : Hp} {i : Int32} {a N : Nat} {f : Nat → Int32} (hA : A.1 a = some (eI w 1 N f)) (j : Nat) (hi : i = nI j) (hj : j < N) (hN : N < 2 ^ 31) : EvI w mX0_cellOf 0 [.ref a, .int (nI 0), .int i] A (f j) := by
  refine Ev.mk 0 [some (.ref a), some (.int (nI 0)), some (.int i)] rfl plX0 (Nat.le_of_ble_eq_true rfl) ?_
  refine r_iload_n 1 dX0_cellOf_0 rfl rfl lo1 ?_
  refine r_if_ne 13 4 dX0_cellOf_1 rfl rfl (fun h => absurd rfl h) (fun _ => ?_)
  refine r_aload_n 5 dX0_cellOf_4 rfl rfl lo0 ?_
  refine r_castA (u := 1) 8 dX0_cellOf_5 rfl (by decide) q717 hA ?_
  refine r_iload_n 9 dX0_cellOf_8 rfl rfl lo2 ?_
  refine r_bald 10 dX0_cellOf_9 rfl hA j hi hj hN ?_
  refine r_goto 33 dX0_cellOf_10 rfl ?_
  exact r_iret dX0_cellOf_33 rfl (Nat.zero_le _) (Nat.zero_le _) ⟨rfl, rfl⟩
theorem ev_X0_sizeI0 {w : WE} {A : Hp} {a N : Nat} {f : Nat → Int32} (hA : A.1 a = some (eI w 1 N f)) : EvI w mX0_sizeOf 0 [.ref a, .int (nI 0)] A (nI N) := by
  refine Ev.mk 0 [some (.ref a), some (.int (nI 0))] rfl plX0 (Nat.le_of_ble_eq_true rfl) ?_
  refine r_iload_n 1 dX0_sizeOf_0 rfl rfl lo1 ?_
  refine r_if_ne 12 4 dX0_sizeOf_1 rfl rfl (fun h => absurd rfl h) (fun _ => ?_)
  refine r_aload_n 5 dX0_sizeOf_4 rfl rfl lo0 ?_
  refine r_castA (u := 1) 8 dX0_sizeOf_5 rfl (by decide) q717 hA ?_
  refine r_alen 9 dX0_sizeOf_8 rfl (laA (t := 1) (by decide)) hA ?_
  refine r_goto 30 dX0_sizeOf_9 rfl ?_
  exact r_iret dX0_sizeOf_30 rfl (Nat.zero_le _) (Nat.zero_le _) ⟨rfl, rfl⟩
theorem ev_X0_cellI1 {w : WE} {A : Hp} {i : Int32} {a N : Nat} {f : Nat → Int32} (hA : A.1 a = some (eI w 2 N f)) (j : Nat) (hi : i = nI j) (hj : j < N) (hN : N < 2 ^ 31) : EvI w mX0_cellOf 0 [.ref a, .int (nI 1), .int i] A (f j) := by
  refine Ev.mk 0 [some (.ref a), some (.int (nI 1)), some (.int i)] rfl plX0 (Nat.le_of_ble_eq_true rfl) ?_
  refine r_iload_n 1 dX0_cellOf_0 rfl rfl lo1 ?_
  refine r_if_ne 13 4 dX0_cellOf_1 rfl rfl (fun _ => ?_) (fun h => absurd h (by decide))
  refine r_iload_n 14 dX0_cellOf_13 rfl rfl lo1 ?_
  refine r_iconst 15 dX0_cellOf_14 rfl ic_1 ?_
  refine r_icmp_ne 27 18 dX0_cellOf_15 rfl rfl (fun h => absurd rfl h) (fun _ => ?_)
  refine r_aload_n 19 dX0_cellOf_18 rfl rfl lo0 ?_
  refine r_castA (u := 2) 22 dX0_cellOf_19 rfl (by decide) q718 hA ?_
  refine r_iload_n 23 dX0_cellOf_22 rfl rfl lo2 ?_
  refine r_sald 24 dX0_cellOf_23 rfl hA j hi hj hN ?_
  refine r_goto 33 dX0_cellOf_24 rfl ?_
  exact r_iret dX0_cellOf_33 rfl (Nat.zero_le _) (Nat.zero_le _) ⟨rfl, rfl⟩
theorem ev_X0_sizeI1 {w : WE} {A : Hp} {a N : Nat} {f : Nat → Int32} (hA : A.1 a = some (eI w 2 N f)) : EvI w mX0_sizeOf 0 [.ref a, .int (nI 1)] A (nI N) := by
  refine Ev.mk 0 [some (.ref a), some (.int (nI 1))] rfl plX0 (Nat.le_of_ble_eq_true rfl) ?_
  refine r_iload_n 1 dX0_sizeOf_0 rfl rfl lo1 ?_
  refine r_if_ne 12 4 dX0_sizeOf_1 rfl rfl (fun _ => ?_) (fun h => absurd h (by decide))
  refine r_iload_n 13 dX0_sizeOf_12 rfl rfl lo1 ?_
  refine r_iconst 14 dX0_sizeOf_13 rfl ic_1 ?_
  refine r_icmp_ne 25 17 dX0_sizeOf_14 rfl rfl (fun h => absurd rfl h) (fun _ => ?_)
  refine r_aload_n 18 dX0_sizeOf_17 rfl rfl lo0 ?_
  refine r_castA (u := 2) 21 dX0_sizeOf_18 rfl (by decide) q718 hA ?_
  refine r_alen 22 dX0_sizeOf_21 rfl (laA (t := 2) (by decide)) hA ?_
  refine r_goto 30 dX0_sizeOf_22 rfl ?_
  exact r_iret dX0_sizeOf_30 rfl (Nat.zero_le _) (Nat.zero_le _) ⟨rfl, rfl⟩
theorem ev_X0_cellI2 {w : WE} {A : Hp} {i : Int32} {a N : Nat} {f : Nat → Int32} (hA : A.1 a = some (eI w 0 N f)) (j : Nat) (hi : i = nI j) (hj : j < N) (hN : N < 2 ^ 31) : EvI w mX0_cellOf 0 [.ref a, .int (nI 2), .int i] A (f j) := by
  refine Ev.mk 0 [some (.ref a), some (.int (nI 2)), some (.int i)] rfl plX0 (Nat.le_of_ble_eq_true rfl) ?_
  refine r_iload_n 1 dX0_cellOf_0 rfl rfl lo1 ?_
  refine r_if_ne 13 4 dX0_cellOf_1 rfl rfl (fun _ => ?_) (fun h => absurd h (by decide))
  refine r_iload_n 14 dX0_cellOf_13 rfl rfl lo1 ?_
  refine r_iconst 15 dX0_cellOf_14 rfl ic_1 ?_
  refine r_icmp_ne 27 18 dX0_cellOf_15 rfl rfl (fun _ => ?_) (fun h => absurd h (by decide))
  refine r_aload_n 28 dX0_cellOf_27 rfl rfl lo0 ?_
  refine r_castA (u := 0) 31 dX0_cellOf_28 rfl (by decide) q719 hA ?_
  refine r_iload_n 32 dX0_cellOf_31 rfl rfl lo2 ?_
  refine r_iald 33 dX0_cellOf_32 rfl hA j hi hj hN ?_
  exact r_iret dX0_cellOf_33 rfl (Nat.zero_le _) (Nat.zero_le _) ⟨rfl, rfl⟩
theorem ev_X0_sizeI2 {w : WE} {A : Hp} {a N : Nat} {f : Nat → Int32} (hA : A.1 a = some (eI w 0 N f)) : EvI w mX0_sizeOf 0 [.ref a, .int (nI 2)] A (nI N) := by
  refine Ev.mk 0 [some (.ref a), some (.int (nI 2))] rfl plX0 (Nat.le_of_ble_eq_true rfl) ?_
  refine r_iload_n 1 dX0_sizeOf_0 rfl rfl lo1 ?_
  refine r_if_ne 12 4 dX0_sizeOf_1 rfl rfl (fun _ => ?_) (fun h => absurd h (by decide))
  refine r_iload_n 13 dX0_sizeOf_12 rfl rfl lo1 ?_
  refine r_iconst 14 dX0_sizeOf_13 rfl ic_1 ?_
  refine r_icmp_ne 25 17 dX0_sizeOf_14 rfl rfl (fun _ => ?_) (fun h => absurd h (by decide))
  refine r_aload_n 26 dX0_sizeOf_25 rfl rfl lo0 ?_
  refine r_castA (u := 0) 29 dX0_sizeOf_26 rfl (by decide) q719 hA ?_
  refine r_alen 30 dX0_sizeOf_29 rfl (laA (t := 0) (by decide)) hA ?_
  exact r_iret dX0_sizeOf_30 rfl (Nat.zero_le _) (Nat.zero_le _) ⟨rfl, rfl⟩
theorem ev_X0_cellI {w : WE} {A : Hp} {a N l : Nat} {f : Nat → Int32} (hl : l ≤ 2) (hA : A.1 a = some (eI w (ln l) N f)) (j : Nat) (hj : j < N) (hN : N < 2 ^ 31) : EvI w mX0_cellOf 0 [.ref a, .int (nI l), .int (nI j)] A (f j) := by
  match l, hl with
  | 0, _ => exact ev_X0_cellI0 hA j rfl hj hN
  | 1, _ => exact ev_X0_cellI1 hA j rfl hj hN
  | 2, _ => exact ev_X0_cellI2 hA j rfl hj hN
theorem ev_X0_sizeI {w : WE} {A : Hp} {a N l : Nat} {f : Nat → Int32} (hl : l ≤ 2) (hA : A.1 a = some (eI w (ln l) N f)) : EvI w mX0_sizeOf 0 [.ref a, .int (nI l)] A (nI N) := by
  match l, hl with
  | 0, _ => exact ev_X0_sizeI0 hA
  | 1, _ => exact ev_X0_sizeI1 hA
  | 2, _ => exact ev_X0_sizeI2 hA
theorem ev_X0_sizeN {w : WE} {A : Hp} {l : Nat} (hl : l ≤ 2) (hT : TR w) : EvY w mX0_sizeOf none 8 1 8 [.null, .int (nI l)] A noR (thr "java/lang/NullPointerException" A 1) := by
  match l, hl with
  | 0, _ => exact ev_X0_sizeOfN0 hT
  | 1, _ => exact ev_X0_sizeOfN1 hT
  | 2, _ => exact ev_X0_sizeOfN2 hT
theorem ev_X0_sizeC {w : WE} {A : Hp} {a N l l' : Nat} {f : Nat → Int32} (hl : l ≤ 2) (hl' : l' ≤ 2) (hne : l' ≠ l) (hA : A.1 a = some (eI w (ln l') N f)) (hw : MRi w) (hT : TR w) : EvY w mX0_sizeOf none 8 3 970 [.ref a, .int (nI l)] A noR (thr "java/lang/ClassCastException" A 3) := by
  match l, hl, l', hl' with
  | 0, _, 0, _ => exact absurd rfl hne
  | 0, _, 1, _ => exact ev_X0_sizeOfC02 hA hw hT
  | 0, _, 2, _ => exact ev_X0_sizeOfC00 hA hw hT
  | 1, _, 0, _ => exact ev_X0_sizeOfC11 hA hw hT
  | 1, _, 1, _ => exact absurd rfl hne
  | 1, _, 2, _ => exact ev_X0_sizeOfC10 hA hw hT
  | 2, _, 0, _ => exact ev_X0_sizeOfC21 hA hw hT
  | 2, _, 1, _ => exact ev_X0_sizeOfC22 hA hw hT
  | 2, _, 2, _ => exact absurd rfl hne
theorem arrV_ext {cI : ClassId} {N : Nat} {f g : Nat → Value} (h : ∀ j, j < N → f j = g j) : arrV cI N f = arrV cI N g := by
  have e : (fun j : Fin N => f j.val) = fun j : Fin N => g j.val := funext fun j => h j.val j.isLt
  unfold arrV
  rw [e]
theorem r_arrE {w : WE} {M : MI} {R : Room} {Z : ZT} {k n : Nat} {A : Hp} {pc : Nat} {lo : List (Option Value)} {st : List Value} {t a N : Nat} {f g : Nat → Int32} (hA : A.1 a = some (eI w t N f)) (h : ∀ j, j < N → f j = g j) (K : Rn w M R Z k n (hp_up A a (eI w t N g)) pc lo st) : Rn w M R Z k n A pc lo st := by
  intro p e s m args below meth c H locs ls C hR hL hl
  refine K p e s m args below meth c H locs ls C ⟨hR.1, hR.2.1, fun q x hx => ?_, hR.2.2.2⟩ hL hl
  by_cases e : q = a
  · subst e
    rw [hp_up_s] at hx
    cases hx
    have h0 : H[q]? = some (vp_cell (w.2.2.1 t) (N, .inl f)) := hR.at hA
    refine Or.inl ?_
    show H[q]? = some (vp_cell (w.2.2.1 t) (N, .inl g))
    rw [h0, vp_cell_i, vp_cell_i, arrV_ext (fun j hj => by rw [h j hj])]
  · rw [hp_up_n e] at hx
    exact hR.2.2.1 q x hx
set_option maxHeartbeats 4000000 in
theorem lp_X0_cellsOf {w : WE} {A0 : Hp} {a N l i n : Nat} {f cc : Nat → Int32} {x4 : Option Value} (hl : l ≤ 2) (hA : A0.1 a = some (eI w (ln l) N f)) (ha : a < A0.2) (hwb : wb w ≤ A0.2) (hN : N ≤ 60) (hin : i + n ≤ N) (hcc : ∀ t, t < n → f (i + t) = cc t) : ∀ (j t : Nat) (A : Hp) (g : Nat → Int32), t + j = n → A.1 (A0.2 + 1) = some (eI w 0 n g) → (∀ u, u < t → g u = cc u) → A.2 = A0.2 + 2 → (∀ q, q < A0.2 → A.1 q = A0.1 q) → Rn w mX0_cellsOf (rmX 1 2 120) (ZX w (fun v A' => v = some (.ref (A0.2 + 1)) ∧ (fun A' => A'.1 (A0.2 + 1) = some (eI w 0 n cc) ∧ A'.2 = A0.2 + 2 ∧ ∀ q, q < A0.2 → A'.1 q = A0.1 q) A') 2 120) 2 120 A 53 [some (.ref a), some (.int (nI l)), some (.int (nI i)), some (.int (nI n)), x4, some (.ref A0.2), some (.ref (A0.2 + 1)), some (.int (nI t))] [] := by
  intro j
  induction j with
  | zero =>
    intro t A g htj hB hg hz ho
    refine r_iload 55 dX0_cellsOf_53 rfl lo7 ?_
    refine r_aload 57 dX0_cellsOf_55 rfl lo6 ?_
    refine r_alen (t := 0) 58 dX0_cellsOf_57 rfl rfl hB ?_
    refine r_icmp_geN 81 61 dX0_cellsOf_58 rfl (by decide) (by omega) (by omega) (fun _ => ?_) (fun hc => absurd hc (by omega))
    refine r_aload 83 dX0_cellsOf_81 rfl lo6 ?_
    refine r_arrE hB (g := cc) (fun u hu => hg u (by omega)) ?_
    exact r_aret dX0_cellsOf_83 rfl (Or.inr ⟨_, rfl⟩) (Or.inr ⟨_, rfl⟩) (Nat.le_refl _) (Nat.le_refl _) ⟨rfl, hp_up_s, hz, fun q hq => (hp_up_n (by omega)).trans (ho q hq)⟩
  | succ j ih =>
    intro t A g htj hB hg hz ho
    refine r_iload 55 dX0_cellsOf_53 rfl lo7 ?_
    refine r_aload 57 dX0_cellsOf_55 rfl lo6 ?_
    refine r_alen (t := 0) 58 dX0_cellsOf_57 rfl rfl hB ?_
    refine r_icmp_geN 81 61 dX0_cellsOf_58 rfl (by decide) (by omega) (by omega) (fun hc => absurd hc (by omega)) (fun _ => ?_)
    refine r_aload 63 dX0_cellsOf_61 rfl lo6 ?_
    refine r_iload 65 dX0_cellsOf_63 rfl lo7 ?_
    refine r_aload_n 66 dX0_cellsOf_65 rfl rfl lo0 ?_
    refine r_iload_n 67 dX0_cellsOf_66 rfl rfl lo1 ?_
    refine r_iload_n 68 dX0_cellsOf_67 rfl rfl lo2 ?_
    refine r_iload 70 dX0_cellsOf_68 rfl lo7 ?_
    refine r_iaddN 71 dX0_cellsOf_70 rfl ?_
    refine r_cS3 74 dX0_cellsOf_71 rfl sS_X0_285 (by rfl) (ev_X0_cellI hl ((ho a ha).trans hA) (i + t) (by omega) (by omega)) ?_
    refine r_iast 75 dX0_cellsOf_74 rfl hB (by omega) t rfl (by omega) (by omega) ?_
    refine r_iinc 78 dX0_cellsOf_75 rfl lo7 inc1 so7 rfl ?_
    refine r_goto 53 dX0_cellsOf_78 (by decide) ?_
    refine ih (t + 1) _ _ (by omega) hp_up_s (fun u hu => ?_) hz (fun q hq => (hp_up_n (by omega)).trans (ho q hq))
    by_cases e : u = t
    · subst e
      rw [upd_s]
      exact hcc u (by omega)
    · rw [upd_n e]
      exact hg u (by omega)

set_option maxHeartbeats 4000000 in
theorem ev_X0_cellsOf {w : WE} {A : Hp} {a N l i n : Nat} {f cc : Nat → Int32} (hl : l ≤ 2) (hA : A.1 a = some (eI w (ln l) N f)) (hN : N ≤ 60) (hin : i + n ≤ N) (hcc : ∀ t, t < n → f (i + t) = cc t) : EvP w mX0_cellsOf 1 2 120 [.ref a, .int (nI l), .int (nI i), .int (nI n)] A (some (.ref (A.2 + 1))) (fun A' => A'.1 (A.2 + 1) = some (eI w 0 n cc) ∧ A'.2 = A.2 + 2 ∧ ∀ q, q < A.2 → A'.1 q = A.1 q) := by
  refine Ev.mk 4 [some (.ref a), some (.int (nI l)), some (.int (nI i)), some (.int (nI n)), none, none, none, none] rfl plX0 (Nat.le_of_ble_eq_true rfl) ?_
  refine r_aload_n 1 dX0_cellsOf_0 rfl rfl lo0 ?_
  refine r_iload_n 2 dX0_cellsOf_1 rfl rfl lo1 ?_
  refine r_cS2 5 dX0_cellsOf_2 rfl sS_X0_300 (by rfl) (ev_X0_sizeI hl hA) ?_
  refine r_istore 7 dX0_cellsOf_5 rfl so4 rfl ?_
  refine r_iload_n 8 dX0_cellsOf_7 rfl rfl lo3 ?_
  refine r_bipush 10 dX0_cellsOf_8 rfl bi_61 ?_
  refine r_mminN 13 dX0_cellsOf_10 rfl q510 (by rfl) (by omega) (by omega) ?_
  rw [Nat.min_eq_left (show n ≤ 61 by omega)]
  refine r_newI (t := 1) (N := n) 15 dX0_cellsOf_13 rfl rfl q631 rfl (fun U cA h => h) rfl rfl (by omega) (by decide) (by decide) (by show 0 + n ≤ 120; omega) (fun hlt hwb => ?_)
  refine r_astore 17 dX0_cellsOf_15 rfl so5 rfl ?_
  refine r_iload_n 18 dX0_cellsOf_17 rfl rfl lo3 ?_
  refine r_bipush 20 dX0_cellsOf_18 rfl bi_61 ?_
  refine r_icmp_geN 39 23 dX0_cellsOf_20 rfl (by decide) (by omega) (by omega) (fun hc => absurd hc (by omega)) (fun _ => ?_)
  refine r_iload_n 24 dX0_cellsOf_23 rfl rfl lo2 ?_
  refine r_if_ltN 39 27 dX0_cellsOf_24 rfl (by decide) (by omega) (fun hc => absurd hc (by omega)) (fun _ => ?_)
  refine r_iload_n 28 dX0_cellsOf_27 rfl rfl lo2 ?_
  refine r_iload 30 dX0_cellsOf_28 rfl lo4 ?_
  refine r_iload_n 31 dX0_cellsOf_30 rfl rfl lo3 ?_
  refine r_isubN 32 dX0_cellsOf_31 rfl (by omega) ?_
  refine r_icmp_gtN 39 35 dX0_cellsOf_32 rfl (by decide) (by omega) (by omega) (fun hc => absurd hc (by omega)) (fun _ => ?_)
  refine r_iconst 36 dX0_cellsOf_35 rfl ic_1 ?_
  refine r_goto 40 dX0_cellsOf_36 (by decide) ?_
  refine rx_S1v 43 dX0_cellsOf_40 rfl sS_X0_304 (cOk_of (by decide) (by decide) (by decide) (by show 0 + n + 0 ≤ 120; omega) (by decide)) ev_X0_needT (fun A1 hP => ?_)
  subst hP
  refine r_aload 45 dX0_cellsOf_43 rfl lo5 ?_
  refine r_alen (t := 1) 46 dX0_cellsOf_45 rfl rfl hp_new_s ?_
  refine r_newI (t := 0) (N := n) 48 dX0_cellsOf_46 rfl rfl q166 rfl (fun U cA h => h) rfl rfl (by omega) (by decide) (by decide) (by show 0 + n + 0 + n ≤ 120; omega) (fun hlt2 hwb2 => ?_)
  refine r_astore 50 dX0_cellsOf_48 rfl so6 rfl ?_
  refine r_iconst 51 dX0_cellsOf_50 rfl ic_0 ?_
  refine r_istore 53 dX0_cellsOf_51 rfl so7 rfl ?_
  refine r_wide 2 120 (by decide) (by omega) ?_
  have ha := hlt _ _ hA
  exact lp_X0_cellsOf hl hA ha hwb hN hin hcc n 0 _ (fun _ => 0) (by omega) (hp_new_s (A := hp_new A (eI w 1 n (fun _ => 0)))) (fun u hu => absurd hu (Nat.not_lt_zero _)) rfl (fun q hq => (hp_new_n (A := hp_new A (eI w 1 n (fun _ => 0))) (show q ≠ A.2 + 1 by omega)).trans (hp_new_n (by omega)))

set_option maxHeartbeats 4000000 in
theorem ev_X0_cellsOfN {w : WE} {A : Hp} {l : Nat} {i n : Int32} (hl : l ≤ 2) (hT : TR w) : EvY w mX0_cellsOf none 9 5 1100 [.null, .int (nI l), .int i, .int n] A noR (thr "java/lang/NullPointerException" A 1) := by
  refine EvY.mk 4 [some (.null), some (.int (nI l)), some (.int i), some (.int n), none, none, none, none] rfl plX0 (Nat.le_of_ble_eq_true rfl) ?_
  refine r_aload_nN 1 dX0_cellsOf_0 rfl rfl lo0 ?_
  refine r_iload_n 2 dX0_cellsOf_1 rfl rfl lo1 ?_
  refine r_yS (As := [.null, .int (nI l)]) rfl 5 dX0_cellsOf_2 rfl sS_X0_300 (by rfl) rfl (ev_X0_sizeN hl hT) (fun _ _ h => h.elim) (fun X A' h => ?_)
  obtain ⟨rfl, rfl⟩ := h
  exact rt_wide 5 1100 (by decide) (by decide) (rt_out (lw_all_tbl q828) ⟨rfl, rfl⟩)

set_option maxHeartbeats 4000000 in
theorem ev_X0_cellsOfC {w : WE} {A : Hp} {a N l l' : Nat} {f : Nat → Int32} {i n : Int32} (hl : l ≤ 2) (hl' : l' ≤ 2) (hne : l' ≠ l) (hA : A.1 a = some (eI w (ln l') N f)) (hw : MRi w) (hT : TR w) : EvY w mX0_cellsOf none 9 5 1100 [.ref a, .int (nI l), .int i, .int n] A noR (thr "java/lang/ClassCastException" A 3) := by
  refine EvY.mk 4 [some (.ref a), some (.int (nI l)), some (.int i), some (.int n), none, none, none, none] rfl plX0 (Nat.le_of_ble_eq_true rfl) ?_
  refine r_aload_n 1 dX0_cellsOf_0 rfl rfl lo0 ?_
  refine r_iload_n 2 dX0_cellsOf_1 rfl rfl lo1 ?_
  refine r_yS (As := [.ref a, .int (nI l)]) rfl 5 dX0_cellsOf_2 rfl sS_X0_300 (by rfl) rfl (ev_X0_sizeC hl hl' hne hA hw hT) (fun _ _ h => h.elim) (fun X A' h => ?_)
  obtain ⟨rfl, rfl⟩ := h
  exact rt_wide 5 1100 (by decide) (by decide) (rt_out (lw_all_tbl q828) ⟨rfl, rfl⟩)

set_option maxHeartbeats 4000000 in
theorem ev_X0_cellsOfS {w : WE} {A : Hp} {a N l : Nat} {f : Nat → Int32} {i n : Int32} (hl : l ≤ 2) (hA : A.1 a = some (eI w (ln l) N f)) (hn : n < 0) (hT : TR w) : EvY w mX0_cellsOf none 9 5 1100 [.ref a, .int (nI l), .int i, .int n] A noR (thr "java/lang/NegativeArraySizeException" A 3) := by
  refine EvY.mk 4 [some (.ref a), some (.int (nI l)), some (.int i), some (.int n), none, none, none, none] rfl plX0 (Nat.le_of_ble_eq_true rfl) ?_
  refine r_aload_n 1 dX0_cellsOf_0 rfl rfl lo0 ?_
  refine r_iload_n 2 dX0_cellsOf_1 rfl rfl lo1 ?_
  refine r_cS2 5 dX0_cellsOf_2 rfl sS_X0_300 (by rfl) (ev_X0_sizeI hl hA) ?_
  refine r_istore 7 dX0_cellsOf_5 rfl so4 rfl ?_
  refine r_iload_n 8 dX0_cellsOf_7 rfl rfl lo3 ?_
  refine r_bipush 10 dX0_cellsOf_8 rfl bi_61 ?_
  refine r_mmin 13 dX0_cellsOf_10 rfl q510 (by rfl) ?_
  rw [if_neg (fun z => by have z1 := i_lt.mp z; have z2 := i_lt.mp hn; have z3 : (nI 61).toInt = 61 := (by decide); have z4 : (0 : Int32).toInt = 0 := (by decide); omega)]
  exact r_newX dX0_cellsOf_13 hn hT rfl (rt_wide 5 1100 (by decide) (by decide) (rt_out (lw_all_tbl q828) ⟨rfl, rfl⟩))

set_option maxHeartbeats 4000000 in
theorem ev_X0_cellsOfI {w : WE} {A : Hp} {a N l n0 : Nat} {f : Nat → Int32} {i : Int32} (hl : l ≤ 2) (hA : A.1 a = some (eI w (ln l) N f)) (hN : N ≤ 60) (hn : n0 < 2 ^ 31) (hbad : i < 0 ∨ nI N < i ∨ nI N - i < nI n0) (hT : TR w) : EvY w mX0_cellsOf none 9 5 1100 [.ref a, .int (nI l), .int i, .int (nI n0)] A noR (fun X A' => X = "java/lang/IndexOutOfBoundsException" ∧ ∃ m : Nat, A' = ((hp_new A (eI w 1 m (fun _ => 0))).1, A.2 + 2)) := by
  refine EvY.mk 4 [some (.ref a), some (.int (nI l)), some (.int i), some (.int (nI n0)), none, none, none, none] rfl plX0 (Nat.le_of_ble_eq_true rfl) ?_
  refine r_aload_n 1 dX0_cellsOf_0 rfl rfl lo0 ?_
  refine r_iload_n 2 dX0_cellsOf_1 rfl rfl lo1 ?_
  refine r_cS2 5 dX0_cellsOf_2 rfl sS_X0_300 (by rfl) (ev_X0_sizeI hl hA) ?_
  refine r_istore 7 dX0_cellsOf_5 rfl so4 rfl ?_
  refine r_iload_n 8 dX0_cellsOf_7 rfl rfl lo3 ?_
  refine r_bipush 10 dX0_cellsOf_8 rfl bi_61 ?_
  refine r_mminN 13 dX0_cellsOf_10 rfl q510 (by rfl) (by omega) (by omega) ?_
  have hm : min n0 61 ≤ 61 := Nat.min_le_right _ _
  refine r_newI (t := 1) (N := min n0 61) 15 dX0_cellsOf_13 rfl rfl q631 rfl (fun U cA h => h) rfl rfl (by omega) (by decide) (by decide) (by show 0 + min n0 61 ≤ 1100; omega) (fun hlt hwb => ?_)
  refine r_astore 17 dX0_cellsOf_15 rfl so5 rfl ?_
  have key : Rn w mX0_cellsOf (rmX 9 5 1100) (ZY w noR (fun X A' => X = "java/lang/IndexOutOfBoundsException" ∧ ∃ m : Nat, A' = ((hp_new A (eI w 1 m (fun _ => 0))).1, A.2 + 2)) 5 1100) (0 + 1) (0 + min n0 61) (hp_new A (eI w 1 (min n0 61) (fun _ => 0))) 39 [some (.ref a), some (.int (nI l)), some (.int i), some (.int (nI n0)), some (.int (nI N)), some (.ref A.2), none, none] [] := by
    refine r_iconst 40 dX0_cellsOf_39 rfl ic_0 ?_
    refine r_yS (As := [.int (nI 0)]) rfl 43 dX0_cellsOf_40 rfl sS_X0_304 (cOk_of (by decide) (by decide) (by decide) (by show 0 + min n0 61 + 6 ≤ 1100; omega) (by decide)) rfl (ev_X0_needF hT) (fun _ _ h => h.elim) (fun X A' h => ?_)
    obtain ⟨rfl, rfl⟩ := h
    exact rt_wide 5 1100 (by decide) (by omega) (rt_out (lw_all_tbl q828) ⟨rfl, _, rfl⟩)
  refine r_iload_n 18 dX0_cellsOf_17 rfl rfl lo3 ?_
  refine r_bipush 20 dX0_cellsOf_18 rfl bi_61 ?_
  refine r_icmp_geN 39 23 dX0_cellsOf_20 rfl (by decide) (by omega) (by omega) (fun _ => key) (fun hc20 => ?_)
  refine r_iload_n 24 dX0_cellsOf_23 rfl rfl lo2 ?_
  refine r_if_lt 39 27 dX0_cellsOf_24 rfl (by decide) (fun _ => key) (fun hc24 => ?_)
  refine r_iload_n 28 dX0_cellsOf_27 rfl rfl lo2 ?_
  refine r_iload 30 dX0_cellsOf_28 rfl lo4 ?_
  refine r_iload_n 31 dX0_cellsOf_30 rfl rfl lo3 ?_
  refine r_isub 32 dX0_cellsOf_31 rfl ?_
  refine r_icmp_gt 39 35 dX0_cellsOf_32 rfl (by decide) (fun _ => key) (fun hc32 => ?_)
  exfalso
  have z4 : (0 : Int32).toInt = 0 := by decide
  have h24 : ¬ i.toInt < 0 := fun z => hc24 (i_lt.mpr (by rw [z4]; exact z))
  have tN := nI_toInt (show N < 2 ^ 31 by omega)
  have tn := nI_toInt hn
  have h32 : ¬ (nI N - nI n0).toInt < i.toInt := fun z => hc32 (i_lt.mpr z)
  have hi2 := Int32.toInt_lt i
  rw [sb_om, tN, tn] at h32
  rcases hbad with h | h | h
  · exact hc24 h
  · have := i_lt.mp h
    rw [tN] at this
    omega
  · have := i_lt.mp h
    rw [sb_om, tN, tn] at this
    omega

