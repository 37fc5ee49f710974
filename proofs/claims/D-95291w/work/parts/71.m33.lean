/-! THE CLASS: common measures, periods, dry hours -/
set_option maxRecDepth 100000
set_option maxHeartbeats 4000000 in
theorem cm_0 {w : WE} {A : Hp} {a d : Nat} (ha : a < 2 ^ 31) : EvI w mX0_common d [.int (nI a), .int (nI 0)] A (nI (Nat.gcd a 0)) := by
  refine Ev.mk 0 [some (.int (nI a)), some (.int (nI 0))] rfl plX0 (Nat.le_of_ble_eq_true rfl) ?_
  refine r_iload_n 1 dX0_common_0 rfl rfl lo1 ?_
  first | refine r_if_neN 8 4 dX0_common_1 rfl (by decide) (by omega) (fun hc1 => ?_) (fun hc1 => ?_) | refine r_if_ne 8 4 dX0_common_1 rfl (by decide) (fun hc1 => ?_) (fun hc1 => ?_)
  · exact absurd rfl hc1
  · refine r_iload_n 5 dX0_common_4 rfl rfl lo0 ?_
    refine r_goto 15 dX0_common_5 (by decide) ?_
    exact r_iret dX0_common_15 rfl (Nat.le_refl _) (Nat.le_refl _) (rv (by rw [Nat.gcd_zero_right]))

set_option maxHeartbeats 4000000 in
theorem cm_s {w : WE} {A : Hp} {a b d : Nat} (ha : a < 2 ^ 31) (hb : b < 2 ^ 31) (h0 : 0 < b) (ih : EvI w mX0_common d [.int (nI b), .int (nI (a % b))] A (nI (Nat.gcd b (a % b)))) : EvI w mX0_common (d + 1) [.int (nI a), .int (nI b)] A (nI (Nat.gcd a b)) := by
  refine Ev.mk 0 [some (.int (nI a)), some (.int (nI b))] rfl plX0 (Nat.le_of_ble_eq_true rfl) ?_
  refine r_iload_n 1 dX0_common_0 rfl rfl lo1 ?_
  first | refine r_if_neN 8 4 dX0_common_1 rfl (by decide) (by omega) (fun hc1 => ?_) (fun hc1 => ?_) | refine r_if_ne 8 4 dX0_common_1 rfl (by decide) (fun hc1 => ?_) (fun hc1 => ?_)
  · refine r_iload_n 9 dX0_common_8 rfl rfl lo1 ?_
    refine r_iload_n 10 dX0_common_9 rfl rfl lo0 ?_
    refine r_iload_n 11 dX0_common_10 rfl rfl lo1 ?_
    first | refine r_iremN 12 dX0_common_11 rfl (by omega) (by omega) (by omega) ?_ | refine r_irem 12 dX0_common_11 rfl (by assumption) ?_
    refine r_cS2 15 dX0_common_12 rfl sS_X0_5 (cOk_of (Nat.le_refl _) (by show 8 + (2 + 11) + (11000 + 64 * d) ≤ 11000 + 64 * (d + 1); omega) (Nat.le_refl _) (Nat.le_refl _) (by decide)) ih ?_
    exact r_iret dX0_common_15 rfl (Nat.le_refl _) (Nat.le_refl _) (rv (by rw [Nat.gcd_comm b, Nat.gcd_comm a]; exact congrArg nI (Nat.gcd_rec b a).symm))
  · exact absurd hc1 (by omega)

theorem ev_X0_common {w : WE} {A : Hp} : ∀ (d a b : Nat), b ≤ a → a * b < 2 ^ d → a < 2 ^ 31 → EvI w mX0_common d [.int (nI a), .int (nI b)] A (nI (Nat.gcd a b))
  | 0, a, b, h1, h2, h3 => by
    have hb : b = 0 := by
      rcases Nat.eq_zero_or_pos b with h | h
      · exact h
      · have := Nat.mul_pos (show 0 < a by omega) h
        rw [Nat.pow_zero] at h2
        omega
    subst hb
    exact cm_0 h3
  | d + 1, a, b, h1, h2, h3 => by
    rcases Nat.eq_zero_or_pos b with h | h
    · subst h
      exact cm_0 h3
    · refine cm_s h3 (by omega) h (ev_X0_common d b (a % b) (Nat.le_of_lt (Nat.mod_lt a h)) ?_ (by omega))
      have e1 := Nat.div_add_mod a b
      have e2 : 1 ≤ a / b := Nat.div_pos h1 h
      have e3 := Nat.mod_lt a h
      have e4 : b * 1 ≤ b * (a / b) := Nat.mul_le_mul_left b e2
      have e5 : 2 * (a % b) ≤ a := by omega
      have e6 : 2 * (b * (a % b)) ≤ a * b := by
        rw [Nat.mul_left_comm, Nat.mul_comm a b]
        exact Nat.mul_le_mul_left b e5
      rw [Nat.pow_succ] at h2
      omega
theorem ev_X0_common2 {w : WE} {A : Hp} {d a b : Nat} (h0 : 0 < b) (h1 : b * (a % b) < 2 ^ d) (h2 : a < 2 ^ 31) (h3 : b < 2 ^ 31) : EvI w mX0_common (d + 1) [.int (nI a), .int (nI b)] A (nI (Nat.gcd a b)) :=
  cm_s h2 h3 h0 (ev_X0_common d b (a % b) (Nat.le_of_lt (Nat.mod_lt a h0)) h1 h3)
theorem dr_per {q : Mo} {t L : Nat} (h : q.1 ∣ L) : dr q (t + L) = dr q t := by
  obtain ⟨c, rfl⟩ := h
  unfold dr
  rw [show t + q.1 * c + q.2.2 = t + q.2.2 + q.1 * c by omega, Nat.add_mul_mod_self_left]
theorem lvl_per {t L : Nat} : ∀ (ms : List Mo), (∀ q ∈ ms, q.1 ∣ L) → lvl ms (t + L) = lvl ms t
  | [], _ => rfl
  | a :: l, h => by
    have h1 := lvl_per (t := t) l (fun q hq => h q (List.mem_cons_of_mem _ hq))
    have h2 := dr_per (t := t) (h a List.mem_cons_self)
    have e : ∀ z, lvl (a :: l) z = dr a z + lvl l z := fun z => by simp [lvl]
    rw [e, e, h1, h2]
theorem lcmM_dvd (ms : List Mo) : ∀ q ∈ ms, q.1 ∣ lcmM ms := by
  have : ∀ (l : List Mo) (a : Nat), a ∣ l.foldl (fun a q => Nat.lcm a q.1) a ∧ ∀ q ∈ l, q.1 ∣ l.foldl (fun a q => Nat.lcm a q.1) a := by
    intro l
    induction l with
    | nil => intro a; exact ⟨Nat.dvd_refl _, fun q hq => by cases hq⟩
    | cons b l ih =>
      intro a
      obtain ⟨h1, h2⟩ := ih (Nat.lcm a b.1)
      refine ⟨Nat.dvd_trans (Nat.dvd_lcm_left a b.1) h1, fun q hq => ?_⟩
      rcases List.mem_cons.mp hq with rfl | hq
      · exact Nat.dvd_trans (Nat.dvd_lcm_right a q.1) h1
      · exact h2 q hq
  exact (this ms 1).2
theorem allb_all {p : Nat → Bool} : ∀ (j t : Nat), (∀ i, p i = true) → allb p j t = true
  | 0, t, h => rfl
  | j + 1, t, h => by rw [allb_t (h t)]; exact allb_all j (t + 1) h
theorem agn_L (ms : List Mo) : agn ms (lcmM ms) (lcmM ms) = true := by
  unfold agn
  rw [Nat.mod_self, allb_all _ _ (fun i => decide_eq_true (lvl_per ms (lcmM_dvd ms)).symm)]
  rfl
theorem lcm_div (a b : Nat) : a / Nat.gcd a b * b = Nat.lcm a b := by
  show a / Nat.gcd a b * b = a * b / Nat.gcd a b
  rw [Nat.mul_comm a b, Nat.mul_div_assoc b (Nat.gcd_dvd_left a b), Nat.mul_comm]
set_option maxHeartbeats 4000000 in
theorem lp_X0_isAgain {w : WE} {A : Hp} {x : XT} {S : ST} {b L : Nat} {r : Bool} (hx : XS w A x S) (hb : b ≤ 30000) (hL : L ≤ 30000) : ∀ (j t : Nat), t + j = L → r = allb (fun t => decide (lvl S.2.1 t = lvl S.2.1 (t + b))) j t → Rn w mX0_isAgain (rmX 4 0 0) (ZX w (QV (.int (bI r)) A) 0 0) 0 0 A 2 [some (.ref (wb w)), some (.int (nI b)), some (.int (nI L)), some (.int (nI t))] [] := by
  intro j
  induction j with
  | zero =>
    intro t htj hr
    have hr : r = true := hr
    subst hr
    refine r_iload_n 3 dX0_isAgain_2 rfl rfl lo3 ?_
    refine r_iload_n 4 dX0_isAgain_3 rfl rfl lo2 ?_
    first | refine r_icmp_geN 30 7 dX0_isAgain_4 rfl (by decide) (by omega) (by omega) (fun hc4 => ?_) (fun hc4 => ?_) | refine r_icmp_ge 30 7 dX0_isAgain_4 rfl (by decide) (fun hc4 => ?_) (fun hc4 => ?_)
    · refine r_iconst 31 dX0_isAgain_30 rfl ic_1 ?_
      exact r_zret dX0_isAgain_31 rfl (by first | exact nb_b _ | exact nb_0 | exact nb_1) (Nat.le_refl _) (Nat.le_refl _) ⟨rfl, rfl⟩
    · exact absurd hc4 (by omega)
  | succ j ih =>
    intro t htj hr
    have l1 := hx.lvl t
    have l2 := hx.lvl (t + b)
    refine r_iload_n 3 dX0_isAgain_2 rfl rfl lo3 ?_
    refine r_iload_n 4 dX0_isAgain_3 rfl rfl lo2 ?_
    first | refine r_icmp_geN 30 7 dX0_isAgain_4 rfl (by decide) (by omega) (by omega) (fun hc4 => ?_) (fun hc4 => ?_) | refine r_icmp_ge 30 7 dX0_isAgain_4 rfl (by decide) (fun hc4 => ?_) (fun hc4 => ?_)
    · exact absurd hc4 (by omega)
    · refine r_aload_n 8 dX0_isAgain_7 rfl rfl lo0 ?_
      refine r_iload_n 9 dX0_isAgain_8 rfl rfl lo3 ?_
      refine r_cV1 12 dX0_isAgain_9 rfl sV_X0_135_0 hx.t (by rfl) (ev_X0_levelIn hx (by omega)) ?_
      refine r_aload_n 13 dX0_isAgain_12 rfl rfl lo0 ?_
      refine r_iload_n 14 dX0_isAgain_13 rfl rfl lo3 ?_
      refine r_iload_n 15 dX0_isAgain_14 rfl rfl lo1 ?_
      first | refine r_iaddN 16 dX0_isAgain_15 rfl ?_ | refine r_iadd 16 dX0_isAgain_15 rfl ?_
      refine r_cV1 19 dX0_isAgain_16 rfl sV_X0_135_0 hx.t (by rfl) (ev_X0_levelIn hx (by omega)) ?_
      first | refine r_icmp_eqN 24 22 dX0_isAgain_19 rfl (by decide) (by omega) (by omega) (fun hc19 => ?_) (fun hc19 => ?_) | refine r_icmp_eq 24 22 dX0_isAgain_19 rfl (by decide) (fun hc19 => ?_) (fun hc19 => ?_)
      · refine r_iinc 27 dX0_isAgain_24 rfl lo3 inc1 so3 rfl ?_
        refine r_goto 2 dX0_isAgain_27 (by decide) ?_
        exact ih (t + 1) (by omega) (by rw [hr, allb_t (decide_eq_true hc19)])
      · refine r_iconst 23 dX0_isAgain_22 rfl ic_0 ?_
        exact r_zret dX0_isAgain_23 rfl (by first | exact nb_b _ | exact nb_0 | exact nb_1) (Nat.le_refl _) (Nat.le_refl _) (rv (by rw [hr, allb_f (decide_eq_false hc19)]; rfl))

set_option maxHeartbeats 4000000 in
theorem ev_X0_isAgain {w : WE} {A : Hp} {x : XT} {S : ST} {b L : Nat} (hx : XS w A x S) (hb : b ≤ 30000) (hL : L ≤ 30000) : EvI w mX0_isAgain 4 [.ref (wb w), .int (nI b), .int (nI L)] A (bI (allb (fun t => decide (lvl S.2.1 t = lvl S.2.1 (t + b))) L 0)) := by
  refine Ev.mk 1 [some (.ref (wb w)), some (.int (nI b)), some (.int (nI L)), none] rfl plX0 (Nat.le_of_ble_eq_true rfl) ?_
  refine r_iconst 1 dX0_isAgain_0 rfl ic_0 ?_
  refine r_istore_n 2 dX0_isAgain_1 rfl rfl so3 rfl ?_
  exact lp_X0_isAgain hx hb hL L 0 (by omega) rfl

set_option maxHeartbeats 4000000 in
theorem lb_X0_again {w : WE} {A : Hp} {x : XT} {S : ST} {L d : Nat} {x3 : Option Value} {r : Int32} (hx : XS w A x S) (hL : L ≤ 30000) (hL0 : 0 < L) (hLL : agn S.2.1 L L = true) : ∀ (j b : Nat), b + j = L → 0 < b → r = nI (fnd (agn S.2.1 L) j b) → Rn w mX0_again (rmX 12 0 0) (ZX w (QV (.int r) A) 0 0) 0 0 A 62 [some (.ref (wb w)), some (.int (nI L)), some (.int (nI b)), x3] [] := by
  intro j
  induction j with
  | zero =>
    intro b hbj hb0 hr
    have hr : r = nI b := hr
    have e : b = L := by omega
    subst e
    have hml := Nat.mod_lt b hb0
    have hz := Nat.mod_self b
    have hall : allb (fun t => decide (lvl S.2.1 t = lvl S.2.1 (t + b))) b 0 = true := by
      unfold agn at hLL
      rw [Bool.and_eq_true] at hLL
      exact hLL.2
    refine r_iload_n 63 dX0_again_62 rfl rfl lo1 ?_
    refine r_iload_n 64 dX0_again_63 rfl rfl lo2 ?_
    first | refine r_iremN 65 dX0_again_64 rfl (by omega) (by omega) (by omega) ?_ | refine r_irem 65 dX0_again_64 rfl (by assumption) ?_
    first | refine r_if_neN 77 68 dX0_again_65 rfl (by decide) (by omega) (fun hc65 => ?_) (fun hc65 => ?_) | refine r_if_ne 77 68 dX0_again_65 rfl (by decide) (fun hc65 => ?_) (fun hc65 => ?_)
    · exact absurd hz hc65
    · refine r_aload_n 69 dX0_again_68 rfl rfl lo0 ?_
      refine r_iload_n 70 dX0_again_69 rfl rfl lo2 ?_
      refine r_iload_n 71 dX0_again_70 rfl rfl lo1 ?_
      refine r_cV2 74 dX0_again_71 rfl sV_X0_138_0 hx.t (by rfl) (ev_X0_isAgain hx (by omega) (by omega)) ?_
      refine r_if_neB 83 77 dX0_again_74 rfl (by decide) (fun hc74 => ?_) (fun hc74 => ?_)
      · refine r_iload_n 84 dX0_again_83 rfl rfl lo2 ?_
        exact r_iret dX0_again_84 rfl (Nat.le_refl _) (Nat.le_refl _) (rv hr.symm)
      · exact absurd (hall.symm.trans hc74) (by decide)
  | succ j ih =>
    intro b hbj hb0 hr
    have hml := Nat.mod_lt L hb0
    refine r_iload_n 63 dX0_again_62 rfl rfl lo1 ?_
    refine r_iload_n 64 dX0_again_63 rfl rfl lo2 ?_
    first | refine r_iremN 65 dX0_again_64 rfl (by omega) (by omega) (by omega) ?_ | refine r_irem 65 dX0_again_64 rfl (by assumption) ?_
    first | refine r_if_neN 77 68 dX0_again_65 rfl (by decide) (by omega) (fun hc65 => ?_) (fun hc65 => ?_) | refine r_if_ne 77 68 dX0_again_65 rfl (by decide) (fun hc65 => ?_) (fun hc65 => ?_)
    · refine r_iinc 80 dX0_again_77 rfl lo2 inc1 so2 rfl ?_
      refine r_goto 62 dX0_again_80 (by decide) ?_
      exact ih (b + 1) (by omega) (by omega) (by rw [hr, fnd_f (by unfold agn; first | (rw [hc74]; simp) | (rw [decide_eq_false hc65]; rfl))])
    · refine r_aload_n 69 dX0_again_68 rfl rfl lo0 ?_
      refine r_iload_n 70 dX0_again_69 rfl rfl lo2 ?_
      refine r_iload_n 71 dX0_again_70 rfl rfl lo1 ?_
      refine r_cV2 74 dX0_again_71 rfl sV_X0_138_0 hx.t (by rfl) (ev_X0_isAgain hx (by omega) (by omega)) ?_
      refine r_if_neB 83 77 dX0_again_74 rfl (by decide) (fun hc74 => ?_) (fun hc74 => ?_)
      · refine r_iload_n 84 dX0_again_83 rfl rfl lo2 ?_
        exact r_iret dX0_again_84 rfl (Nat.le_refl _) (Nat.le_refl _) (rv (by rw [hr, fnd_t (by unfold agn; rw [decide_eq_true hc65, hc74]; rfl)]))
      · refine r_iinc 80 dX0_again_77 rfl lo2 inc1 so2 rfl ?_
        refine r_goto 62 dX0_again_80 (by decide) ?_
        exact ih (b + 1) (by omega) (by omega) (by rw [hr, fnd_f (by unfold agn; first | (rw [hc74]; simp) | (rw [decide_eq_false hc65]; rfl))])

set_option maxHeartbeats 4000000 in
theorem lo_X0_again {w : WE} {A : Hp} {x : XT} {S : ST} {r : Int32} (hx : XS w A x S) (hr : r = nI (fnd (agn S.2.1 (lcmM S.2.1)) (lcmM S.2.1 - 1) 1)) : ∀ (j i o : Nat) (x3 : Option Value), i + j = S.2.1.length → o = lcmM (S.2.1.take i) → Rn w mX0_again (rmX 12 0 0) (ZX w (QV (.int r) A) 0 0) 0 0 A 14 [some (.ref (wb w)), some (.int (nI o)), some (.int (nI i)), x3] [] := by
  obtain ⟨cm, pm, gm, m1, m2, m3, m4, m5⟩ := hx.ml.use
  have hl3 := hx.ok.2.1
  have hb := lcmM_bound hx.ok.2.2.1
  have hp3 : 30 ^ S.2.1.length ≤ 30 ^ 3 := Nat.pow_le_pow_right (by decide) hl3
  intro j
  induction j with
  | zero =>
    intro i o x3 hij ho
    rw [lcmM_all (by omega)] at ho
    subst ho
    refine r_iload_n 15 dX0_again_14 rfl rfl lo2 ?_
    refine r_aload_n 16 dX0_again_15 rfl rfl lo0 ?_
    refine r_get 19 dX0_again_16 rfl g_X0_24_0 hx.t lo1 ?_
    refine r_cF0 24 dX0_again_19 rfl sF_X0_65_7 m1 (by rfl) (ev_J2_size m1) ?_
    first | refine r_icmp_geN 60 27 dX0_again_24 rfl (by decide) (by omega) (by omega) (fun hc24 => ?_) (fun hc24 => ?_) | refine r_icmp_ge 60 27 dX0_again_24 rfl (by decide) (fun hc24 => ?_) (fun hc24 => ?_)
    · refine r_iconst 61 dX0_again_60 rfl ic_1 ?_
      refine r_istore_n 62 dX0_again_61 rfl rfl so2 rfl ?_
      exact lb_X0_again (d := 0) hx (by omega) hb.1 (agn_L S.2.1) (lcmM S.2.1 - 1) 1 (by omega) (by omega) hr
    · exact absurd hc24 (by omega)
  | succ j ih =>
    intro i o x3 hij ho
    have hb2 := lcmM_bound (ms := S.2.1.take i) (fun q hq => hx.ok.2.2.1 q (List.mem_of_mem_take hq))
    have hlen : (S.2.1.take i).length = i := by rw [List.length_take]; omega
    have hp2 : 30 ^ (S.2.1.take i).length ≤ 30 ^ 2 := Nat.pow_le_pow_right (by decide) (by omega)
    rw [← ho] at hb2
    obtain ⟨q, hq⟩ := get_of_lt (l := S.2.1) (i := i) (by omega)
    have hmo := hx.mo i q hq
    obtain ⟨o1, o2, o3, o4, o5⟩ := hx.mok hq
    have hg0 : 0 < Nat.gcd o q.1 := Nat.gcd_pos_of_pos_left _ hb2.1
    have hg1 : Nat.gcd o q.1 ≤ o := Nat.gcd_le_left _ hb2.1
    have hmd := Nat.mod_lt o (show 0 < q.1 by omega)
    have hmm : q.1 * (o % q.1) < 2 ^ 10 := Nat.lt_of_le_of_lt (Nat.mul_le_mul o2 (show o % q.1 ≤ 29 by omega)) (by decide)
    refine r_iload_n 15 dX0_again_14 rfl rfl lo2 ?_
    refine r_aload_n 16 dX0_again_15 rfl rfl lo0 ?_
    refine r_get 19 dX0_again_16 rfl g_X0_24_0 hx.t lo1 ?_
    refine r_cF0 24 dX0_again_19 rfl sF_X0_65_7 m1 (by rfl) (ev_J2_size m1) ?_
    first | refine r_icmp_geN 60 27 dX0_again_24 rfl (by decide) (by omega) (by omega) (fun hc24 => ?_) (fun hc24 => ?_) | refine r_icmp_ge 60 27 dX0_again_24 rfl (by decide) (fun hc24 => ?_) (fun hc24 => ?_)
    · exact absurd hc24 (by omega)
    · refine r_aload_n 28 dX0_again_27 rfl rfl lo0 ?_
      refine r_get 31 dX0_again_28 rfl g_X0_24_0 hx.t lo1 ?_
      refine r_iload_n 32 dX0_again_31 rfl rfl lo2 ?_
      refine r_cF1 37 dX0_again_32 rfl sF_X0_112_7 m1 (by rfl) (ev_J2_get m1 m2 (show i < S.2.1.length by omega) m3 (by omega) (m5 i (by omega))) ?_
      refine r_castY 40 dX0_again_37 rfl sC_X0_92 hmo.2 ?_
      refine r_getN 43 dX0_again_40 rfl gN_X0_116_2 hmo.2 lo0 ?_
      refine r_istore_n 44 dX0_again_43 rfl rfl so3 rfl ?_
      refine r_iload_n 45 dX0_again_44 rfl rfl lo1 ?_
      refine r_iload_n 46 dX0_again_45 rfl rfl lo1 ?_
      refine r_iload_n 47 dX0_again_46 rfl rfl lo3 ?_
      refine r_cS2 50 dX0_again_47 rfl sS_X0_5 (by rfl) (ev_X0_common2 (d := 10) (by omega) hmm (by omega) (by omega)) ?_
      first | refine r_idivN 51 dX0_again_50 rfl (by omega) (by omega) (by omega) ?_ | refine r_idiv 51 dX0_again_50 rfl (by assumption) ?_
      refine r_iload_n 52 dX0_again_51 rfl rfl lo3 ?_
      first | refine r_imulN 53 dX0_again_52 rfl ?_ | refine r_imul 53 dX0_again_52 rfl ?_
      rw [lcm_div]
      refine r_istore_n 54 dX0_again_53 rfl rfl so1 rfl ?_
      refine r_iinc 57 dX0_again_54 rfl lo2 inc1 so2 rfl ?_
      refine r_goto 14 dX0_again_57 (by decide) ?_
      exact ih (i + 1) _ _ (by omega) (by rw [lcmM_take hq, ho])

set_option maxHeartbeats 4000000 in
theorem ev_X0_again {w : WE} {A : Hp} {x : XT} {S : ST} (hx : XS w A x S) : EvI w mX0_again 12 [.ref (wb w)] A (sp_again S) := by
  refine Ev.mk 3 [some (.ref (wb w)), none, none, none] rfl plX0 (Nat.le_of_ble_eq_true rfl) ?_
  have hi6 := hx.le
  refine r_aload_n 1 dX0_again_0 rfl rfl lo0 ?_
  refine r_getv 4 dX0_again_1 rfl g_X0_61_0 hx.t lo0 hx.il ?_
  first | refine r_if_neN 10 7 dX0_again_4 rfl (by decide) (by omega) (fun hc4 => ?_) (fun hc4 => ?_) | refine r_if_ne 10 7 dX0_again_4 rfl (by decide) (fun hc4 => ?_) (fun hc4 => ?_)
  · refine r_iconst 11 dX0_again_10 rfl ic_1 ?_
    refine r_istore_n 12 dX0_again_11 rfl rfl so1 rfl ?_
    refine r_iconst 13 dX0_again_12 rfl ic_0 ?_
    refine r_istore_n 14 dX0_again_13 rfl rfl so2 rfl ?_
    exact lo_X0_again hx (by unfold sp_again; rw [if_neg hc4]) S.2.1.length 0 1 none (by omega) rfl
  · refine r_bipush 9 dX0_again_7 rfl bi_m3 ?_
    exact r_iret dX0_again_9 rfl (Nat.le_refl _) (Nat.le_refl _) (rv (by unfold sp_again; rw [if_pos hc4]))

set_option maxHeartbeats 4000000 in
theorem lp_X0_dryHours {w : WE} {A : Hp} {x : XT} {S : ST} {r f t1 c : Nat} {q : Rd} {which : Int32} (hx : XS w A x S) (hq : S.2.2.1[r]? = some q) (hf : f < t1) (ht : t1 ≤ 2000) (hc : c ≤ t1 - f) : ∀ (j t s : Nat), t + j = t1 → c = cntb (isD S.2.1 q) j t s → Rn w mX0_dryHours (rmX 24 0 0) (ZX w (QV (.long (lN ((if which.toInt = 0 then c else t1 - f) / Nat.gcd c (t1 - f)))) A) 0 0) 0 0 A 51 [some (.ref (wb w)), some (.int (nI r)), some (.int (nI f)), some (.int (nI t1)), some (.int which), some (.int (nI s)), some (.int (nI t))] [] := by
  obtain ⟨cr, pr, gr, r1, r2, r3, r4, r5⟩ := hx.rl.use
  have hl10 := hx.ok.2.2.2.1
  have hrd := hx.rd r q hq
  have hrk := hx.rok hq
  have hk := hrk.1
  have hrl := (List.getElem?_eq_some_iff.mp hq).1
  have hg0 : 0 < Nat.gcd (t1 - f) c := Nat.gcd_pos_of_pos_left _ (by omega)
  have hmm : (t1 - f) * c < 2 ^ 22 := Nat.lt_of_le_of_lt (Nat.mul_le_mul (show t1 - f ≤ 2000 by omega) (show c ≤ 2000 by omega)) (by decide)
  have hgl : Nat.gcd (t1 - f) c ≤ t1 - f := Nat.gcd_le_left _ (by omega)
  intro j
  induction j with
  | zero =>
    intro t s htj hcs
    have hcs : c = s := hcs
    subst hcs
    have hd1 := Nat.div_le_self c (Nat.gcd (t1 - f) c)
    have hd2 := Nat.div_le_self (t1 - f) (Nat.gcd (t1 - f) c)
    refine r_iload 53 dX0_dryHours_51 rfl lo6 ?_
    refine r_iload_n 54 dX0_dryHours_53 rfl rfl lo3 ?_
    first | refine r_icmp_geN 95 57 dX0_dryHours_54 rfl (by decide) (by omega) (by omega) (fun hc54 => ?_) (fun hc54 => ?_) | refine r_icmp_ge 95 57 dX0_dryHours_54 rfl (by decide) (fun hc54 => ?_) (fun hc54 => ?_)
    · refine r_iload 97 dX0_dryHours_95 rfl lo4 ?_
      refine r_if_ne 105 100 dX0_dryHours_97 rfl (by decide) (fun hc97 => ?_) (fun hc97 => ?_)
      · refine r_iload_n 106 dX0_dryHours_105 rfl rfl lo3 ?_
        refine r_iload_n 107 dX0_dryHours_106 rfl rfl lo2 ?_
        first | refine r_isubN 108 dX0_dryHours_107 rfl (by omega) ?_ | refine r_isub 108 dX0_dryHours_107 rfl ?_
        refine r_iload_n 109 dX0_dryHours_108 rfl rfl lo3 ?_
        refine r_iload_n 110 dX0_dryHours_109 rfl rfl lo2 ?_
        first | refine r_isubN 111 dX0_dryHours_110 rfl (by omega) ?_ | refine r_isub 111 dX0_dryHours_110 rfl ?_
        refine r_iload 113 dX0_dryHours_111 rfl lo5 ?_
        refine r_cS2 116 dX0_dryHours_113 rfl sS_X0_5 (by rfl) (ev_X0_common 22 (t1 - f) c hc hmm (by omega)) ?_
        first | refine r_idivN 117 dX0_dryHours_116 rfl (by omega) (by omega) (by omega) ?_ | refine r_idiv 117 dX0_dryHours_116 rfl (by assumption) ?_
        refine r_i2l 118 dX0_dryHours_117 rfl (nI_l (by omega)) ?_
        exact r_lret dX0_dryHours_118 rfl (Nat.le_refl _) (Nat.le_refl _) (rvl (by rw [Nat.gcd_comm c]; first | rw [if_pos (show which.toInt = 0 from i_eq.mp hc97)] | rw [if_neg (show ¬ which.toInt = 0 from fun h => hc97 (i_eq.mpr h))]))
      · refine r_iload 102 dX0_dryHours_100 rfl lo5 ?_
        refine r_goto 108 dX0_dryHours_102 (by decide) ?_
        refine r_iload_n 109 dX0_dryHours_108 rfl rfl lo3 ?_
        refine r_iload_n 110 dX0_dryHours_109 rfl rfl lo2 ?_
        first | refine r_isubN 111 dX0_dryHours_110 rfl (by omega) ?_ | refine r_isub 111 dX0_dryHours_110 rfl ?_
        refine r_iload 113 dX0_dryHours_111 rfl lo5 ?_
        refine r_cS2 116 dX0_dryHours_113 rfl sS_X0_5 (by rfl) (ev_X0_common 22 (t1 - f) c hc hmm (by omega)) ?_
        first | refine r_idivN 117 dX0_dryHours_116 rfl (by omega) (by omega) (by omega) ?_ | refine r_idiv 117 dX0_dryHours_116 rfl (by assumption) ?_
        refine r_i2l 118 dX0_dryHours_117 rfl (nI_l (by omega)) ?_
        exact r_lret dX0_dryHours_118 rfl (Nat.le_refl _) (Nat.le_refl _) (rvl (by rw [Nat.gcd_comm c]; first | rw [if_pos (show which.toInt = 0 from i_eq.mp hc97)] | rw [if_neg (show ¬ which.toInt = 0 from fun h => hc97 (i_eq.mpr h))]))
    · exact absurd hc54 (by omega)
  | succ j ih =>
    intro t s htj hcs
    have hs := (cntb_le (isD S.2.1 q) (j + 1) t s).1
    rw [← hcs] at hs
    rw [cntb_s] at hcs
    refine r_iload 53 dX0_dryHours_51 rfl lo6 ?_
    refine r_iload_n 54 dX0_dryHours_53 rfl rfl lo3 ?_
    first | refine r_icmp_geN 95 57 dX0_dryHours_54 rfl (by decide) (by omega) (by omega) (fun hc54 => ?_) (fun hc54 => ?_) | refine r_icmp_ge 95 57 dX0_dryHours_54 rfl (by decide) (fun hc54 => ?_) (fun hc54 => ?_)
    · exact absurd hc54 (by omega)
    · refine r_iload 59 dX0_dryHours_57 rfl lo5 ?_
      refine r_aload_n 60 dX0_dryHours_59 rfl rfl lo0 ?_
      refine r_aload_n 61 dX0_dryHours_60 rfl rfl lo0 ?_
      refine r_get 64 dX0_dryHours_61 rfl g_X0_28_0 hx.t lo3 ?_
      refine r_iload_n 65 dX0_dryHours_64 rfl rfl lo1 ?_
      refine r_cF1 70 dX0_dryHours_65 rfl sF_X0_112_7 r1 (by rfl) (ev_J2_get r1 r2 hrl r3 (by omega) (r5 r hrl)) ?_
      refine r_castY 73 dX0_dryHours_70 rfl (sC_X0_147 hk) hrd.2 ?_
      refine r_iload 75 dX0_dryHours_73 rfl lo6 ?_
      refine r_cV2 78 dX0_dryHours_75 rfl sV_X0_173_0 hx.t (by rfl) (ev_X0_isDry hx hq (by omega)) ?_
      refine r_if_eqB 85 81 dX0_dryHours_78 rfl (by decide) (fun hc78 => ?_) (fun hc78 => ?_)
      · refine r_iconst 86 dX0_dryHours_85 rfl ic_0 ?_
        first | refine r_iaddN 87 dX0_dryHours_86 rfl ?_ | refine r_iadd 87 dX0_dryHours_86 rfl ?_
        refine r_istore 89 dX0_dryHours_87 rfl so5 rfl ?_
        refine r_iinc 92 dX0_dryHours_89 rfl lo6 inc1 so6 rfl ?_
        refine r_goto 51 dX0_dryHours_92 (by decide) ?_
        exact ih (t + 1) _ (by omega) (by first | (rw [hcs, if_pos hc78]) | (rw [hcs, if_neg (by rw [hc78]; decide)]; rfl))
      · refine r_iconst 82 dX0_dryHours_81 rfl ic_1 ?_
        refine r_goto 86 dX0_dryHours_82 (by decide) ?_
        first | refine r_iaddN 87 dX0_dryHours_86 rfl ?_ | refine r_iadd 87 dX0_dryHours_86 rfl ?_
        refine r_istore 89 dX0_dryHours_87 rfl so5 rfl ?_
        refine r_iinc 92 dX0_dryHours_89 rfl lo6 inc1 so6 rfl ?_
        refine r_goto 51 dX0_dryHours_92 (by decide) ?_
        exact ih (t + 1) _ (by omega) (by first | (rw [hcs, if_pos hc78]) | (rw [hcs, if_neg (by rw [hc78]; decide)]; rfl))

theorem dh_add {f : Int32} (h : btw f.toInt 0 1999 = true) : (f.toInt64 + lN 1).toInt = f.toInt + 1 := by
  obtain ⟨j, hj, rfl⟩ := hr_ok h
  rw [nI_l (by omega), lN_add, lN_toInt (by omega), nI_toInt (by omega)]
  omega
theorem ev_X0_dryHours {w : WE} {A : Hp} {x : XT} {S : ST} {v f t1 which : Int32} (hx : XS w A x S) : EvV w mX0_dryHours 24 [.ref (wb w), .int v, .int f, .int t1, .int which] A (.long (sp_dryHours S v f t1 which)) := by
  refine Ev.mk 2 [some (.ref (wb w)), some (.int v), some (.int f), some (.int t1), some (.int which), none, none] rfl plX0 (Nat.le_of_ble_eq_true rfl) ?_
  obtain ⟨cr, pr, gr, r1, r2, r3, r4, r5⟩ := hx.rl.use
  have hl10 := hx.ok.2.2.2.1
  refine r_aload_n 1 dX0_dryHours_0 rfl rfl lo0 ?_
  refine r_iload_n 2 dX0_dryHours_1 rfl rfl lo1 ?_
  refine r_cV1 5 dX0_dryHours_2 rfl sV_X0_158_0 hx.t (by rfl) (ev_X0_noRoad hx) ?_
  refine r_if_neB 41 8 dX0_dryHours_5 rfl (by decide) (fun hc5 => ?_) (fun hc5 => ?_)
  · refine r_ldc2 44 dX0_dryHours_41 rfl q461 ?_
    exact r_lret dX0_dryHours_44 rfl (Nat.le_refl _) (Nat.le_refl _) (rvl (by unfold sp_dryHours; first | rw [ix_no (by exact btw_f.mp (by simpa using hc5))] | (rw [hix]; dsimp only; rw [if_neg (fun h => by first | (rw [hc12] at h; exact absurd h.1 (by decide)) | (rw [hc38] at h; exact absurd h.2.2.2 (by decide)) | (have := btw_f.mp hc27; omega))])))
  · obtain ⟨j, q, hj, rfl, hq, hix⟩ := ix_ok (l := S.2.2.1) (x := v) (by have := btw_t.mp (by simpa using hc5); omega)
    have hrd := hx.rd j q hq
    have hrk := hx.rok hq
    have hk := hrk.1
    have h0 : (q.1 = 0 → q.2.2.2.2.2 = 0) ∧ RdOk S.1 q := ⟨(hx.ok.1.2 q (List.mem_of_getElem? hq)).2, hrk⟩
    refine r_iload_n 9 dX0_dryHours_8 rfl rfl lo2 ?_
    refine r_cS1 12 dX0_dryHours_9 rfl sS_X0_125 (by rfl) ev_X0_isHour ?_
    refine r_if_eqB 41 15 dX0_dryHours_12 rfl (by decide) (fun hc12 => ?_) (fun hc12 => ?_)
    · refine r_ldc2 44 dX0_dryHours_41 rfl q461 ?_
      exact r_lret dX0_dryHours_44 rfl (Nat.le_refl _) (Nat.le_refl _) (rvl (by unfold sp_dryHours; first | rw [ix_no (by exact btw_f.mp (by simpa using hc5))] | (rw [hix]; dsimp only; rw [if_neg (fun h => by first | (rw [hc12] at h; exact absurd h.1 (by decide)) | (rw [hc38] at h; exact absurd h.2.2.2 (by decide)) | (have := btw_f.mp hc27; omega))])))
    · refine r_iload_n 16 dX0_dryHours_15 rfl rfl lo3 ?_
      refine r_i2l 17 dX0_dryHours_16 rfl rfl ?_
      refine r_iload_n 18 dX0_dryHours_17 rfl rfl lo2 ?_
      refine r_i2l 19 dX0_dryHours_18 rfl rfl ?_
      refine r_lconst 20 dX0_dryHours_19 rfl lc_1 ?_
      refine r_ladd 21 dX0_dryHours_20 rfl ?_
      refine r_ldc2 24 dX0_dryHours_21 rfl q460 ?_
      refine r_cS3 27 dX0_dryHours_24 rfl sS_X0_11 (by rfl) (ev_X0_in t1.toInt (f.toInt + 1) 2000 (Int32.toInt_toInt64 _) (dh_add hc12) (by decide)) ?_
      refine r_if_eqB 41 30 dX0_dryHours_27 rfl (by decide) (fun hc27 => ?_) (fun hc27 => ?_)
      · refine r_ldc2 44 dX0_dryHours_41 rfl q461 ?_
        exact r_lret dX0_dryHours_44 rfl (Nat.le_refl _) (Nat.le_refl _) (rvl (by unfold sp_dryHours; first | rw [ix_no (by exact btw_f.mp (by simpa using hc5))] | (rw [hix]; dsimp only; rw [if_neg (fun h => by first | (rw [hc12] at h; exact absurd h.1 (by decide)) | (rw [hc38] at h; exact absurd h.2.2.2 (by decide)) | (have := btw_f.mp hc27; omega))])))
      · refine r_iload 32 dX0_dryHours_30 rfl lo4 ?_
        refine r_i2l 33 dX0_dryHours_32 rfl rfl ?_
        refine r_lconst 34 dX0_dryHours_33 rfl lc_0 ?_
        refine r_lconst 35 dX0_dryHours_34 rfl lc_1 ?_
        refine r_cS3 38 dX0_dryHours_35 rfl sS_X0_11 (by rfl) (ev_X0_in which.toInt 0 1 (Int32.toInt_toInt64 _) (by decide) (by decide)) ?_
        refine r_if_neB 45 41 dX0_dryHours_38 rfl (by decide) (fun hc38 => ?_) (fun hc38 => ?_)
        · obtain ⟨f, hf, rfl⟩ := hr_ok hc12
          have g1 := btw_t.mp hc27
          rw [nI_toInt (n := f) (by omega)] at g1
          obtain ⟨t1, u1, rfl, u2⟩ := i_nat (x := t1) (by omega)
          rw [u2] at g1
          refine r_iconst 46 dX0_dryHours_45 rfl ic_0 ?_
          refine r_istore 48 dX0_dryHours_46 rfl so5 rfl ?_
          refine r_iload_n 49 dX0_dryHours_48 rfl rfl lo2 ?_
          refine r_istore 51 dX0_dryHours_49 rfl so6 rfl ?_
          have e : sp_dryHours S (nI j) (nI f) (nI t1) which = lN ((if which.toInt = 0 then cntb (isD S.2.1 q) (t1 - f) f 0 else t1 - f) / Nat.gcd (cntb (isD S.2.1 q) (t1 - f) f 0) (t1 - f)) := by
            unfold sp_dryHours
            rw [hix]
            dsimp only
            rw [if_pos ⟨hc12, by rw [nI_toInt (by omega), u2]; omega, by omega, hc38⟩, nI_nat (j := f) (by omega), nI_nat (j := t1) u1]
          rw [e]
          have hcb := (cntb_le (isD S.2.1 q) (t1 - f) f 0).2
          exact lp_X0_dryHours hx hq (by omega) (by omega) (by omega) (t1 - f) f 0 (by omega) rfl
        · refine r_ldc2 44 dX0_dryHours_41 rfl q461 ?_
          exact r_lret dX0_dryHours_44 rfl (Nat.le_refl _) (Nat.le_refl _) (rvl (by unfold sp_dryHours; first | rw [ix_no (by exact btw_f.mp (by simpa using hc5))] | (rw [hix]; dsimp only; rw [if_neg (fun h => by first | (rw [hc12] at h; exact absurd h.1 (by decide)) | (rw [hc38] at h; exact absurd h.2.2.2 (by decide)) | (have := btw_f.mp hc27; omega))])))

