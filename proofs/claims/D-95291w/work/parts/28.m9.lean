/-! THE REFERENCE: shares, dry hours, periods -/
set_option maxRecDepth 100000
set_option maxHeartbeats 4000000 in
theorem lp_X1_share {w : WE} {A : Hp} {u v : Nat} {which : Int32} (hu : u < 2 ^ 31) (hv : v < 2 ^ 31) : ∀ (j a b : Nat) (x9 : Option Value), b ≤ j → a < 2 ^ 31 → b < 2 ^ 31 → 0 < a + b → Nat.gcd a b = Nat.gcd u v → Rn w mX1_share (rmX 1 0 0) (ZX w (QV (.long (lN ((if which.toInt = 0 then u else v) / Nat.gcd u v))) A) 0 0) 0 0 A 6 [some (.long (lN u)), none, some (.long (lN v)), none, some (.int which), some (.long (lN a)), none, some (.long (lN b)), none, x9, none] [] := by
  intro j
  induction j with
  | zero =>
    intro a b x9 hbj ha hb hp hg
    have hb0 : b = 0 := by omega
    subst hb0
    rw [Nat.gcd_zero_right] at hg
    subst hg
    refine r_lload 8 dX1_share_6 rfl lo7 ?_
    refine r_lconst 9 dX1_share_8 rfl lc_0 ?_
    refine r_lcmp 10 dX1_share_9 rfl ?_
    refine r_if_eq 31 13 dX1_share_10 rfl (by decide) (fun hc10 => ?_) (fun hc10 => ?_)
    · refine r_iload 33 dX1_share_31 rfl lo4 ?_
      refine r_if_ne 43 36 dX1_share_33 rfl (by decide) (fun hc33 => ?_) (fun hc33 => ?_)
      · refine r_lload_n 44 dX1_share_43 rfl rfl lo2 ?_
        refine r_lload 46 dX1_share_44 rfl lo5 ?_
        refine r_ldivN 47 dX1_share_46 rfl (by omega) (by omega) (by omega) ?_
        exact r_lret dX1_share_47 rfl (Nat.le_refl _) (Nat.le_refl _) (rvl (by first | rw [if_pos (show which.toInt = 0 from i_eq.mp hc33)] | rw [if_neg (show ¬ which.toInt = 0 from fun h => hc33 (i_eq.mpr h))]))
      · refine r_lload_n 37 dX1_share_36 rfl rfl lo0 ?_
        refine r_lload 39 dX1_share_37 rfl lo5 ?_
        refine r_ldivN 40 dX1_share_39 rfl (by omega) (by omega) (by omega) ?_
        refine r_goto 47 dX1_share_40 (by decide) ?_
        exact r_lret dX1_share_47 rfl (Nat.le_refl _) (Nat.le_refl _) (rvl (by first | rw [if_pos (show which.toInt = 0 from i_eq.mp hc33)] | rw [if_neg (show ¬ which.toInt = 0 from fun h => hc33 (i_eq.mpr h))]))
    · exact absurd ((lg_z (by decide)).mpr rfl) hc10
  | succ j ih =>
    intro a b x9 hbj ha hb hp hg
    by_cases hb0 : b = 0
    · exact ih a b x9 (by omega) ha hb hp hg
    have hlt := Nat.mod_lt a (show 0 < b by omega)
    refine r_lload 8 dX1_share_6 rfl lo7 ?_
    refine r_lconst 9 dX1_share_8 rfl lc_0 ?_
    refine r_lcmp 10 dX1_share_9 rfl ?_
    refine r_if_eq 31 13 dX1_share_10 rfl (by decide) (fun hc10 => ?_) (fun hc10 => ?_)
    · exact absurd ((lg_z (by omega)).mp hc10) hb0
    · refine r_lload 15 dX1_share_13 rfl lo5 ?_
      refine r_lload 17 dX1_share_15 rfl lo7 ?_
      refine r_lremN 18 dX1_share_17 rfl (by omega) (by omega) (by omega) ?_
      refine r_lstore 20 dX1_share_18 rfl sw9 rfl (by decide) ?_
      refine r_lload 22 dX1_share_20 rfl lo7 ?_
      refine r_lstore 24 dX1_share_22 rfl sw5 rfl (by decide) ?_
      refine r_lload 26 dX1_share_24 rfl lo9 ?_
      refine r_lstore 28 dX1_share_26 rfl sw7 rfl (by decide) ?_
      refine r_goto 6 dX1_share_28 (by decide) ?_
      exact ih b (a % b) _ (by omega) (by omega) (by omega) (by omega) (by rw [← hg, Nat.gcd_comm b, Nat.gcd_comm a]; exact (Nat.gcd_rec b a).symm)

set_option maxHeartbeats 4000000 in
theorem ev_X1_share {w : WE} {A : Hp} {u v : Nat} {which : Int32} (hu : u < 2 ^ 31) (hv : v < 2 ^ 31) (hp : 0 < v) : EvV w mX1_share 1 [.long (lN u), .long (lN v), .int which] A (.long (lN ((if which.toInt = 0 then u else v) / Nat.gcd u v))) := by
  refine Ev.mk 6 [some (.long (lN u)), none, some (.long (lN v)), none, some (.int which), none, none, none, none, none, none] rfl plX1 (Nat.le_of_ble_eq_true rfl) ?_
  refine r_lload_n 1 dX1_share_0 rfl rfl lo0 ?_
  refine r_lstore 3 dX1_share_1 rfl sw5 rfl (by decide) ?_
  refine r_lload_n 4 dX1_share_3 rfl rfl lo2 ?_
  refine r_lstore 6 dX1_share_4 rfl sw7 rfl (by decide) ?_
  exact lp_X1_share hu hv v u v none (Nat.le_refl _) hu hv (by omega) rfl

set_option maxHeartbeats 4000000 in
theorem lp_X1_dryHours {w : WE} {A : Hp} {m : MT} {S : ST} {r f t1 c : Nat} {q : Rd} {which : Int32} (hm : MR w A m) (hS : MS m S) (hq : S.2.2.1[r]? = some q) (hf : f < t1) (ht : t1 ≤ 2000) (hc : c ≤ 2000) : ∀ (j t s : Nat), t + j = t1 → c = cntb (isD S.2.1 q) j t s → Rn w mX1_dryHours (rmX 4 0 0) (ZX w (QV (.long (lN ((if which.toInt = 0 then c else t1 - f) / Nat.gcd c (t1 - f)))) A) 0 0) 0 0 A 47 [some (.ref (mb w)), some (.int (nI r)), some (.int (nI f)), some (.int (nI t1)), some (.int which), some (.int (nI s)), some (.int (nI t))] [] := by
  intro j
  induction j with
  | zero =>
    intro t s htj hcs
    have hcs : c = s := hcs
    subst hcs
    refine r_iload 49 dX1_dryHours_47 rfl lo6 ?_
    refine r_iload_n 50 dX1_dryHours_49 rfl rfl lo3 ?_
    first | refine r_icmp_geN 79 53 dX1_dryHours_50 rfl (by decide) (by omega) (by omega) (fun hc50 => ?_) (fun hc50 => ?_) | refine r_icmp_ge 79 53 dX1_dryHours_50 rfl (by decide) (fun hc50 => ?_) (fun hc50 => ?_)
    · refine r_iload 81 dX1_dryHours_79 rfl lo5 ?_
      refine r_i2l 82 dX1_dryHours_81 rfl (nI_l (by omega)) ?_
      refine r_iload_n 83 dX1_dryHours_82 rfl rfl lo3 ?_
      refine r_iload_n 84 dX1_dryHours_83 rfl rfl lo2 ?_
      first | refine r_isubN 85 dX1_dryHours_84 rfl (by omega) ?_ | refine r_isub 85 dX1_dryHours_84 rfl ?_
      refine r_i2l 86 dX1_dryHours_85 rfl (nI_l (by omega)) ?_
      refine r_iload 88 dX1_dryHours_86 rfl lo4 ?_
      refine r_cS3 91 dX1_dryHours_88 rfl sS_X1_162 (by rfl) (ev_X1_share (by omega) (by omega) (by omega)) ?_
      exact r_lret dX1_dryHours_91 rfl (Nat.le_refl _) (Nat.le_refl _) ⟨rfl, rfl⟩
    · exact absurd hc50 (by omega)
  | succ j ih =>
    intro t s htj hcs
    have hs := (cntb_le (isD S.2.1 q) (j + 1) t s).1
    rw [← hcs] at hs
    rw [cntb_s] at hcs
    refine r_iload 49 dX1_dryHours_47 rfl lo6 ?_
    refine r_iload_n 50 dX1_dryHours_49 rfl rfl lo3 ?_
    first | refine r_icmp_geN 79 53 dX1_dryHours_50 rfl (by decide) (by omega) (by omega) (fun hc50 => ?_) (fun hc50 => ?_) | refine r_icmp_ge 79 53 dX1_dryHours_50 rfl (by decide) (fun hc50 => ?_) (fun hc50 => ?_)
    · exact absurd hc50 (by omega)
    · refine r_iload 55 dX1_dryHours_53 rfl lo5 ?_
      refine r_aload_n 56 dX1_dryHours_55 rfl rfl lo0 ?_
      refine r_iload_n 57 dX1_dryHours_56 rfl rfl lo1 ?_
      refine r_iload 59 dX1_dryHours_57 rfl lo6 ?_
      refine r_cV2 62 dX1_dryHours_59 rfl sV_X1_159_1 hm.t (by rfl) (ev_X1_isDry hm hS.mo hS.rd hq (by omega)) ?_
      refine r_if_eqB 69 65 dX1_dryHours_62 rfl (by decide) (fun hc62 => ?_) (fun hc62 => ?_)
      · refine r_iconst 70 dX1_dryHours_69 rfl ic_0 ?_
        first | refine r_iaddN 71 dX1_dryHours_70 rfl ?_ | refine r_iadd 71 dX1_dryHours_70 rfl ?_
        refine r_istore 73 dX1_dryHours_71 rfl so5 rfl ?_
        refine r_iinc 76 dX1_dryHours_73 rfl lo6 inc1 so6 rfl ?_
        refine r_goto 47 dX1_dryHours_76 (by decide) ?_
        exact ih (t + 1) _ (by omega) (by first | (rw [hcs, if_pos hc62]) | (rw [hcs, if_neg (by rw [hc62]; decide)]; rfl))
      · refine r_iconst 66 dX1_dryHours_65 rfl ic_1 ?_
        refine r_goto 70 dX1_dryHours_66 (by decide) ?_
        first | refine r_iaddN 71 dX1_dryHours_70 rfl ?_ | refine r_iadd 71 dX1_dryHours_70 rfl ?_
        refine r_istore 73 dX1_dryHours_71 rfl so5 rfl ?_
        refine r_iinc 76 dX1_dryHours_73 rfl lo6 inc1 so6 rfl ?_
        refine r_goto 47 dX1_dryHours_76 (by decide) ?_
        exact ih (t + 1) _ (by omega) (by first | (rw [hcs, if_pos hc62]) | (rw [hcs, if_neg (by rw [hc62]; decide)]; rfl))

set_option maxHeartbeats 4000000 in
theorem ev_X1_dryHours {w : WE} {A : Hp} {m : MT} {S : ST} {x f t1 which : Int32} (hm : MR w A m) (hS : MS m S) : EvV w mX1_dryHours 4 [.ref (mb w), .int x, .int f, .int t1, .int which] A (.long (sp_dryHours S x f t1 which)) := by
  refine Ev.mk 2 [some (.ref (mb w)), some (.int x), some (.int f), some (.int t1), some (.int which), none, none] rfl plX1 (Nat.le_of_ble_eq_true rfl) ?_
  have hl10 := hS.rd.2.1
  have hz : (m.1 16).toInt = (S.2.2.1.length : Int) := by rw [hS.rd.1, nI_toInt (by omega)]
  refine r_aload_n 1 dX1_dryHours_0 rfl rfl lo0 ?_
  refine r_iload_n 2 dX1_dryHours_1 rfl rfl lo1 ?_
  refine r_cV1 5 dX1_dryHours_2 rfl sV_X1_153_1 hm.t (by rfl) (ev_X1_isRoad hm) ?_
  refine r_if_eqB 37 8 dX1_dryHours_5 rfl (by decide) (fun hc5 => ?_) (fun hc5 => ?_)
  · refine r_ldc2 40 dX1_dryHours_37 rfl q1355 ?_
    exact r_lret dX1_dryHours_40 rfl (Nat.le_refl _) (Nat.le_refl _) (rvl (by unfold sp_dryHours; first | rw [ix_no (by rw [hz] at hc5; exact btw_f.mp hc5)] | (rw [hix]; dsimp only; rw [if_neg (fun h => by first | (rw [hc12] at h; exact absurd h.1 (by decide)) | (rw [hc34] at h; exact absurd h.2.2.2 (by decide)) | (have := i_le.mp hc17; omega) | (have := i_lt.mp hc24; rw [nI_toInt (by decide)] at this; omega))])))
  · obtain ⟨j, q, hj, rfl, hq, hix⟩ := ix_ok (l := S.2.2.1) (x := x) (by rw [hz] at hc5; have := btw_t.mp hc5; omega)
    obtain ⟨h10, h11, h12, h13, h14, h15, hok⟩ := hS.rd.2.2 j q hq
    obtain ⟨o1, o2, o3, o4, o5, o6, o7, o8⟩ := hok
    refine r_iload_n 9 dX1_dryHours_8 rfl rfl lo2 ?_
    refine r_cS1 12 dX1_dryHours_9 rfl sS_X1_137 (by rfl) ev_X1_isHour ?_
    refine r_if_eqB 37 15 dX1_dryHours_12 rfl (by decide) (fun hc12 => ?_) (fun hc12 => ?_)
    · refine r_ldc2 40 dX1_dryHours_37 rfl q1355 ?_
      exact r_lret dX1_dryHours_40 rfl (Nat.le_refl _) (Nat.le_refl _) (rvl (by unfold sp_dryHours; first | rw [ix_no (by rw [hz] at hc5; exact btw_f.mp hc5)] | (rw [hix]; dsimp only; rw [if_neg (fun h => by first | (rw [hc12] at h; exact absurd h.1 (by decide)) | (rw [hc34] at h; exact absurd h.2.2.2 (by decide)) | (have := i_le.mp hc17; omega) | (have := i_lt.mp hc24; rw [nI_toInt (by decide)] at this; omega))])))
    · refine r_iload_n 16 dX1_dryHours_15 rfl rfl lo3 ?_
      refine r_iload_n 17 dX1_dryHours_16 rfl rfl lo2 ?_
      refine r_icmp_le 37 20 dX1_dryHours_17 rfl (by decide) (fun hc17 => ?_) (fun hc17 => ?_)
      · refine r_ldc2 40 dX1_dryHours_37 rfl q1355 ?_
        exact r_lret dX1_dryHours_40 rfl (Nat.le_refl _) (Nat.le_refl _) (rvl (by unfold sp_dryHours; first | rw [ix_no (by rw [hz] at hc5; exact btw_f.mp hc5)] | (rw [hix]; dsimp only; rw [if_neg (fun h => by first | (rw [hc12] at h; exact absurd h.1 (by decide)) | (rw [hc34] at h; exact absurd h.2.2.2 (by decide)) | (have := i_le.mp hc17; omega) | (have := i_lt.mp hc24; rw [nI_toInt (by decide)] at this; omega))])))
      · refine r_iload_n 21 dX1_dryHours_20 rfl rfl lo3 ?_
        refine r_sipush 24 dX1_dryHours_21 rfl si_2000 ?_
        refine r_icmp_gt 37 27 dX1_dryHours_24 rfl (by decide) (fun hc24 => ?_) (fun hc24 => ?_)
        · refine r_ldc2 40 dX1_dryHours_37 rfl q1355 ?_
          exact r_lret dX1_dryHours_40 rfl (Nat.le_refl _) (Nat.le_refl _) (rvl (by unfold sp_dryHours; first | rw [ix_no (by rw [hz] at hc5; exact btw_f.mp hc5)] | (rw [hix]; dsimp only; rw [if_neg (fun h => by first | (rw [hc12] at h; exact absurd h.1 (by decide)) | (rw [hc34] at h; exact absurd h.2.2.2 (by decide)) | (have := i_le.mp hc17; omega) | (have := i_lt.mp hc24; rw [nI_toInt (by decide)] at this; omega))])))
        · refine r_iload 29 dX1_dryHours_27 rfl lo4 ?_
          refine r_iconst 30 dX1_dryHours_29 rfl ic_0 ?_
          refine r_iconst 31 dX1_dryHours_30 rfl ic_1 ?_
          refine r_cS3 34 dX1_dryHours_31 rfl sS_X1_82 (by rfl) (ev_X1_within 0 1 (by decide) (by decide)) ?_
          refine r_if_neB 41 37 dX1_dryHours_34 rfl (by decide) (fun hc34 => ?_) (fun hc34 => ?_)
          · obtain ⟨f, hf, rfl⟩ := hr_ok hc12
            have g1 : ¬ t1.toInt ≤ (nI f).toInt := fun h => hc17 (i_le.mpr h)
            have g2 : ¬ (nI 2000).toInt < t1.toInt := fun h => hc24 (i_lt.mpr h)
            rw [nI_toInt (by omega)] at g1 g2
            obtain ⟨t1, u1, rfl, u2⟩ := i_nat (x := t1) (by omega)
            rw [u2] at g1 g2
            refine r_iconst 42 dX1_dryHours_41 rfl ic_0 ?_
            refine r_istore 44 dX1_dryHours_42 rfl so5 rfl ?_
            refine r_iload_n 45 dX1_dryHours_44 rfl rfl lo2 ?_
            refine r_istore 47 dX1_dryHours_45 rfl so6 rfl ?_
            have e : sp_dryHours S (nI j) (nI f) (nI t1) which = lN ((if which.toInt = 0 then cntb (isD S.2.1 q) (t1 - f) f 0 else t1 - f) / Nat.gcd (cntb (isD S.2.1 q) (t1 - f) f 0) (t1 - f)) := by
              unfold sp_dryHours
              rw [hix]
              dsimp only
              rw [if_pos ⟨hc12, by rw [nI_toInt (by omega), u2]; omega, by omega, hc34⟩, nI_nat (j := f) (by omega), nI_nat (j := t1) u1]
            rw [e]
            have hcb := (cntb_le (isD S.2.1 q) (t1 - f) f 0).2
            exact lp_X1_dryHours hm hS hq (by omega) (by omega) (by omega) (t1 - f) f 0 (by omega) rfl
          · refine r_ldc2 40 dX1_dryHours_37 rfl q1355 ?_
            exact r_lret dX1_dryHours_40 rfl (Nat.le_refl _) (Nat.le_refl _) (rvl (by unfold sp_dryHours; first | rw [ix_no (by rw [hz] at hc5; exact btw_f.mp hc5)] | (rw [hix]; dsimp only; rw [if_neg (fun h => by first | (rw [hc12] at h; exact absurd h.1 (by decide)) | (rw [hc34] at h; exact absurd h.2.2.2 (by decide)) | (have := i_le.mp hc17; omega) | (have := i_lt.mp hc24; rw [nI_toInt (by decide)] at this; omega))])))

set_option maxHeartbeats 4000000 in
theorem lp_X1_comesAgain {w : WE} {A : Hp} {m : MT} {ms : List Mo} {b L : Nat} {r : Bool} (hm : MR w A m) (hM : MoR m ms) (hb : b ≤ 40000) (hL : L ≤ 40000) : ∀ (j t : Nat), t + j = L → r = allb (fun t => decide (lvl ms t = lvl ms (t + b))) j t → Rn w mX1_comesAgain (rmX 2 0 0) (ZX w (QV (.int (bI r)) A) 0 0) 0 0 A 2 [some (.ref (mb w)), some (.int (nI b)), some (.int (nI L)), some (.int (nI t))] [] := by
  intro j
  induction j with
  | zero =>
    intro t htj hr
    have hr : r = true := hr
    subst hr
    refine r_iload_n 3 dX1_comesAgain_2 rfl rfl lo3 ?_
    refine r_iload_n 4 dX1_comesAgain_3 rfl rfl lo2 ?_
    first | refine r_icmp_geN 30 7 dX1_comesAgain_4 rfl (by decide) (by omega) (by omega) (fun hc4 => ?_) (fun hc4 => ?_) | refine r_icmp_ge 30 7 dX1_comesAgain_4 rfl (by decide) (fun hc4 => ?_) (fun hc4 => ?_)
    · refine r_iconst 31 dX1_comesAgain_30 rfl ic_1 ?_
      exact r_zret dX1_comesAgain_31 rfl (by first | exact nb_b _ | exact nb_0 | exact nb_1) (Nat.le_refl _) (Nat.le_refl _) ⟨rfl, rfl⟩
    · exact absurd hc4 (by omega)
  | succ j ih =>
    intro t htj hr
    have l1 := hM.lt t
    have l2 := hM.lt (t + b)
    refine r_iload_n 3 dX1_comesAgain_2 rfl rfl lo3 ?_
    refine r_iload_n 4 dX1_comesAgain_3 rfl rfl lo2 ?_
    first | refine r_icmp_geN 30 7 dX1_comesAgain_4 rfl (by decide) (by omega) (by omega) (fun hc4 => ?_) (fun hc4 => ?_) | refine r_icmp_ge 30 7 dX1_comesAgain_4 rfl (by decide) (fun hc4 => ?_) (fun hc4 => ?_)
    · exact absurd hc4 (by omega)
    · refine r_aload_n 8 dX1_comesAgain_7 rfl rfl lo0 ?_
      refine r_iload_n 9 dX1_comesAgain_8 rfl rfl lo3 ?_
      refine r_cV1 12 dX1_comesAgain_9 rfl sV_X1_144_1 hm.t (by rfl) (ev_X1_levelAt hm hM (by omega)) ?_
      refine r_aload_n 13 dX1_comesAgain_12 rfl rfl lo0 ?_
      refine r_iload_n 14 dX1_comesAgain_13 rfl rfl lo3 ?_
      refine r_iload_n 15 dX1_comesAgain_14 rfl rfl lo1 ?_
      first | refine r_iaddN 16 dX1_comesAgain_15 rfl ?_ | refine r_iadd 16 dX1_comesAgain_15 rfl ?_
      refine r_cV1 19 dX1_comesAgain_16 rfl sV_X1_144_1 hm.t (by rfl) (ev_X1_levelAt hm hM (by omega)) ?_
      first | refine r_icmp_eqN 24 22 dX1_comesAgain_19 rfl (by decide) (by omega) (by omega) (fun hc19 => ?_) (fun hc19 => ?_) | refine r_icmp_eq 24 22 dX1_comesAgain_19 rfl (by decide) (fun hc19 => ?_) (fun hc19 => ?_)
      · refine r_iinc 27 dX1_comesAgain_24 rfl lo3 inc1 so3 rfl ?_
        refine r_goto 2 dX1_comesAgain_27 (by decide) ?_
        exact ih (t + 1) (by omega) (by rw [hr, allb_t (decide_eq_true hc19)])
      · refine r_iconst 23 dX1_comesAgain_22 rfl ic_0 ?_
        exact r_zret dX1_comesAgain_23 rfl (by first | exact nb_b _ | exact nb_0 | exact nb_1) (Nat.le_refl _) (Nat.le_refl _) (rv (by rw [hr, allb_f (decide_eq_false hc19)]; rfl))

set_option maxHeartbeats 4000000 in
theorem ev_X1_comesAgain {w : WE} {A : Hp} {m : MT} {ms : List Mo} {b L : Nat} (hm : MR w A m) (hM : MoR m ms) (hb : b ≤ 40000) (hL : L ≤ 40000) : EvI w mX1_comesAgain 2 [.ref (mb w), .int (nI b), .int (nI L)] A (bI (allb (fun t => decide (lvl ms t = lvl ms (t + b))) L 0)) := by
  refine Ev.mk 1 [some (.ref (mb w)), some (.int (nI b)), some (.int (nI L)), none] rfl plX1 (Nat.le_of_ble_eq_true rfl) ?_
  refine r_iconst 1 dX1_comesAgain_0 rfl ic_0 ?_
  refine r_istore_n 2 dX1_comesAgain_1 rfl rfl so3 rfl ?_
  exact lp_X1_comesAgain hm hM hb hL L 0 (by omega) rfl

set_option maxHeartbeats 4000000 in
theorem li_X1_again {w : WE} {A : Hp} {m : MT} {ms : List Mo} {q : Mo} {i o : Nat} {Z : ZT} (hm : MR w A m) (hM : MoR m ms) (hq : ms[i]? = some q) (ho : 0 < o) (ho2 : o ≤ 900) (K : Rn w mX1_again (rmX 3 0 0) Z 0 0 A 42 [some (.ref (mb w)), some (.int (nI (Nat.lcm o q.1))), some (.int (nI i)), some (.int (nI o))] []) : ∀ (j c : Nat), 0 < c → o * c ≤ Nat.lcm o q.1 → Nat.lcm o q.1 ≤ o * c + j → Rn w mX1_again (rmX 3 0 0) Z 0 0 A 24 [some (.ref (mb w)), some (.int (nI (o * c))), some (.int (nI i)), some (.int (nI o))] [] := by
  have hl3 := hM.2.1
  have hi := (List.getElem?_eq_some_iff.mp hq).1
  obtain ⟨h4, h5, h6, o1, o2, o3, o4, o5⟩ := hM.2.2 i q hq
  have hle : Nat.lcm o q.1 ≤ 27000 := Nat.le_trans lcm_le_mul (Nat.le_trans (Nat.mul_le_mul ho2 o2) (by decide))
  intro j
  induction j with
  | zero =>
    intro c hc0 hc1 hc2
    have e : o * c = Nat.lcm o q.1 := by omega
    rw [e]
    have hml := Nat.mod_lt (Nat.lcm o q.1) (show 0 < q.1 by omega)
    refine r_iload_n 25 dX1_again_24 rfl rfl lo1 ?_
    refine r_aload_n 26 dX1_again_25 rfl rfl lo0 ?_
    refine r_get 29 dX1_again_26 rfl g_X1_19_1 hm.t lo7 ?_
    refine r_iload_n 30 dX1_again_29 rfl rfl lo2 ?_
    refine r_ialdv 31 dX1_again_30 rfl hm.a4 _ rfl h4 (by omega) (by decide) ?_
    first | refine r_iremN 32 dX1_again_31 rfl (by omega) (by omega) (by omega) ?_ | refine r_irem 32 dX1_again_31 rfl (by assumption) ?_
    first | refine r_if_eqN 42 35 dX1_again_32 rfl (by decide) (by omega) (fun hc32 => ?_) (fun hc32 => ?_) | refine r_if_eq 42 35 dX1_again_32 rfl (by decide) (fun hc32 => ?_) (fun hc32 => ?_)
    · exact K
    · exact absurd (Nat.mod_eq_zero_of_dvd (Nat.dvd_lcm_right o q.1)) hc32
  | succ j ih =>
    intro c hc0 hc1 hc2
    have hml := Nat.mod_lt (o * c) (show 0 < q.1 by omega)
    refine r_iload_n 25 dX1_again_24 rfl rfl lo1 ?_
    refine r_aload_n 26 dX1_again_25 rfl rfl lo0 ?_
    refine r_get 29 dX1_again_26 rfl g_X1_19_1 hm.t lo7 ?_
    refine r_iload_n 30 dX1_again_29 rfl rfl lo2 ?_
    refine r_ialdv 31 dX1_again_30 rfl hm.a4 _ rfl h4 (by omega) (by decide) ?_
    first | refine r_iremN 32 dX1_again_31 rfl (by omega) (by omega) (by omega) ?_ | refine r_irem 32 dX1_again_31 rfl (by assumption) ?_
    first | refine r_if_eqN 42 35 dX1_again_32 rfl (by decide) (by omega) (fun hc32 => ?_) (fun hc32 => ?_) | refine r_if_eq 42 35 dX1_again_32 rfl (by decide) (fun hc32 => ?_) (fun hc32 => ?_)
    · rw [lcm_end hc0 ho hc1 hc32]
      exact K
    · refine r_iload_n 36 dX1_again_35 rfl rfl lo1 ?_
      refine r_iload_n 37 dX1_again_36 rfl rfl lo3 ?_
      first | refine r_iaddN 38 dX1_again_37 rfl ?_ | refine r_iadd 38 dX1_again_37 rfl ?_
      refine r_istore_n 39 dX1_again_38 rfl rfl so1 rfl ?_
      refine r_goto 24 dX1_again_39 (by decide) ?_
      exact ih (c + 1) (by omega) (lcm_next ho (by omega) hc1 hc32) (by rw [Nat.mul_add, Nat.mul_one]; omega)

set_option maxHeartbeats 4000000 in
theorem lb_X1_again {w : WE} {A : Hp} {m : MT} {ms : List Mo} {L : Nat} {x3 : Option Value} {r : Int32} (hm : MR w A m) (hM : MoR m ms) (hL : L ≤ 30000) (hL0 : 0 < L) : ∀ (j b : Nat), b + j = L → 0 < b → r = nI (fnd (agn ms L) j b) → Rn w mX1_again (rmX 3 0 0) (ZX w (QV (.int r) A) 0 0) 0 0 A 50 [some (.ref (mb w)), some (.int (nI L)), some (.int (nI b)), x3] [] := by
  intro j
  induction j with
  | zero =>
    intro b hbj hb0 hr
    have hr : r = nI b := hr
    have e : b = L := by omega
    subst e
    refine r_iload_n 51 dX1_again_50 rfl rfl lo2 ?_
    refine r_iload_n 52 dX1_again_51 rfl rfl lo1 ?_
    first | refine r_icmp_geN 78 55 dX1_again_52 rfl (by decide) (by omega) (by omega) (fun hc52 => ?_) (fun hc52 => ?_) | refine r_icmp_ge 78 55 dX1_again_52 rfl (by decide) (fun hc52 => ?_) (fun hc52 => ?_)
    · refine r_iload_n 79 dX1_again_78 rfl rfl lo1 ?_
      exact r_iret dX1_again_79 rfl (Nat.le_refl _) (Nat.le_refl _) (rv hr.symm)
    · exact absurd hc52 (by omega)
  | succ j ih =>
    intro b hbj hb0 hr
    have hml := Nat.mod_lt L hb0
    refine r_iload_n 51 dX1_again_50 rfl rfl lo2 ?_
    refine r_iload_n 52 dX1_again_51 rfl rfl lo1 ?_
    first | refine r_icmp_geN 78 55 dX1_again_52 rfl (by decide) (by omega) (by omega) (fun hc52 => ?_) (fun hc52 => ?_) | refine r_icmp_ge 78 55 dX1_again_52 rfl (by decide) (fun hc52 => ?_) (fun hc52 => ?_)
    · exact absurd hc52 (by omega)
    · refine r_iload_n 56 dX1_again_55 rfl rfl lo1 ?_
      refine r_iload_n 57 dX1_again_56 rfl rfl lo2 ?_
      first | refine r_iremN 58 dX1_again_57 rfl (by omega) (by omega) (by omega) ?_ | refine r_irem 58 dX1_again_57 rfl (by assumption) ?_
      first | refine r_if_neN 72 61 dX1_again_58 rfl (by decide) (by omega) (fun hc58 => ?_) (fun hc58 => ?_) | refine r_if_ne 72 61 dX1_again_58 rfl (by decide) (fun hc58 => ?_) (fun hc58 => ?_)
      · refine r_iinc 75 dX1_again_72 rfl lo2 inc1 so2 rfl ?_
        refine r_goto 50 dX1_again_75 (by decide) ?_
        exact ih (b + 1) (by omega) (by omega) (by rw [hr, fnd_f (by unfold agn; first | (rw [hc67]; simp) | (rw [decide_eq_false hc58]; rfl))])
      · refine r_aload_n 62 dX1_again_61 rfl rfl lo0 ?_
        refine r_iload_n 63 dX1_again_62 rfl rfl lo2 ?_
        refine r_iload_n 64 dX1_again_63 rfl rfl lo1 ?_
        refine r_cV2 67 dX1_again_64 rfl sV_X1_147_1 hm.t (by rfl) (ev_X1_comesAgain hm hM (by omega) (by omega)) ?_
        refine r_if_eqB 72 70 dX1_again_67 rfl (by decide) (fun hc67 => ?_) (fun hc67 => ?_)
        · refine r_iinc 75 dX1_again_72 rfl lo2 inc1 so2 rfl ?_
          refine r_goto 50 dX1_again_75 (by decide) ?_
          exact ih (b + 1) (by omega) (by omega) (by rw [hr, fnd_f (by unfold agn; first | (rw [hc67]; simp) | (rw [decide_eq_false hc58]; rfl))])
        · refine r_iload_n 71 dX1_again_70 rfl rfl lo2 ?_
          exact r_iret dX1_again_71 rfl (Nat.le_refl _) (Nat.le_refl _) (rv (by rw [hr, fnd_t (by unfold agn; rw [decide_eq_true hc58, hc67]; rfl)]))

set_option maxHeartbeats 4000000 in
theorem lo_X1_again {w : WE} {A : Hp} {m : MT} {ms : List Mo} {r : Int32} (hm : MR w A m) (hM : MoR m ms) (hr : r = nI (fnd (agn ms (lcmM ms)) (lcmM ms - 1) 1)) : ∀ (j i o : Nat) (x3 : Option Value), i + j = ms.length → o = lcmM (ms.take i) → Rn w mX1_again (rmX 3 0 0) (ZX w (QV (.int r) A) 0 0) 0 0 A 14 [some (.ref (mb w)), some (.int (nI o)), some (.int (nI i)), x3] [] := by
  have hl3 := hM.2.1
  have hb := lcmM_bound hM.ok
  have hp3 : 30 ^ ms.length ≤ 30 ^ 3 := Nat.pow_le_pow_right (by decide) hl3
  intro j
  induction j with
  | zero =>
    intro i o x3 hij ho
    have hi : i = ms.length := by omega
    rw [lcmM_all (by omega)] at ho
    subst ho
    refine r_iload_n 15 dX1_again_14 rfl rfl lo2 ?_
    refine r_aload_n 16 dX1_again_15 rfl rfl lo0 ?_
    refine r_getv 19 dX1_again_16 rfl g_X1_120_1 hm.t lo6 hM.1 ?_
    first | refine r_icmp_geN 48 22 dX1_again_19 rfl (by decide) (by omega) (by omega) (fun hc19 => ?_) (fun hc19 => ?_) | refine r_icmp_ge 48 22 dX1_again_19 rfl (by decide) (fun hc19 => ?_) (fun hc19 => ?_)
    · refine r_iconst 49 dX1_again_48 rfl ic_1 ?_
      refine r_istore_n 50 dX1_again_49 rfl rfl so2 rfl ?_
      exact lb_X1_again hm hM (by omega) hb.1 (lcmM ms - 1) 1 (by omega) (by omega) hr
    · exact absurd hc19 (by omega)
  | succ j ih =>
    intro i o x3 hij ho
    have hb2 := lcmM_bound (ms := ms.take i) (fun q hq => hM.ok q (List.mem_of_mem_take hq))
    have hlen : (ms.take i).length = i := by rw [List.length_take]; omega
    have hp2 : 30 ^ (ms.take i).length ≤ 30 ^ 2 := Nat.pow_le_pow_right (by decide) (by omega)
    rw [← ho] at hb2
    refine r_iload_n 15 dX1_again_14 rfl rfl lo2 ?_
    refine r_aload_n 16 dX1_again_15 rfl rfl lo0 ?_
    refine r_getv 19 dX1_again_16 rfl g_X1_120_1 hm.t lo6 hM.1 ?_
    first | refine r_icmp_geN 48 22 dX1_again_19 rfl (by decide) (by omega) (by omega) (fun hc19 => ?_) (fun hc19 => ?_) | refine r_icmp_ge 48 22 dX1_again_19 rfl (by decide) (fun hc19 => ?_) (fun hc19 => ?_)
    · exact absurd hc19 (by omega)
    · obtain ⟨q, hq⟩ := get_of_lt hc19
      refine r_iload_n 23 dX1_again_22 rfl rfl lo1 ?_
      refine r_istore_n 24 dX1_again_23 rfl rfl so3 rfl ?_
      refine Eq.subst (motive := fun z => Rn w mX1_again (rmX 3 0 0) (ZX w (QV (.int r) A) 0 0) 0 0 A 24 [some (.ref (mb w)), some (.int (nI z)), some (.int (nI i)), some (.int (nI o))] []) (Nat.mul_one o) (li_X1_again hm hM hq (by omega) (by omega) ?_ (Nat.lcm o q.1) 1 (by decide) (by rw [Nat.mul_one]; exact Nat.le_of_dvd (Nat.lcm_pos (by omega) (by have := (hM.2.2 i q hq).2.2.2.1; omega)) (Nat.dvd_lcm_left o q.1)) (by omega))
      refine r_iinc 45 dX1_again_42 rfl lo2 inc1 so2 rfl ?_
      refine r_goto 14 dX1_again_45 (by decide) ?_
      exact ih (i + 1) _ _ (by omega) (by rw [lcmM_take hq, ho])

set_option maxHeartbeats 4000000 in
theorem ev_X1_again {w : WE} {A : Hp} {m : MT} {S : ST} (hm : MR w A m) (hS : MS m S) : EvI w mX1_again 3 [.ref (mb w)] A (sp_again S) := by
  refine Ev.mk 3 [some (.ref (mb w)), none, none, none] rfl plX1 (Nat.le_of_ble_eq_true rfl) ?_
  have hi6 := hS.ok.le
  have hz : (m.1 5).toInt = (S.1 : Int) := by rw [hS.il, nI_toInt (by omega)]
  refine r_aload_n 1 dX1_again_0 rfl rfl lo0 ?_
  refine r_cV0 4 dX1_again_1 rfl sV_X1_140_1 hm.t (by rfl) (ev_X1_isSea hm) ?_
  refine r_if_neB 10 7 dX1_again_4 rfl (by decide) (fun hc4 => ?_) (fun hc4 => ?_)
  · refine r_iconst 11 dX1_again_10 rfl ic_1 ?_
    refine r_istore_n 12 dX1_again_11 rfl rfl so1 rfl ?_
    refine r_iconst 13 dX1_again_12 rfl ic_0 ?_
    refine r_istore_n 14 dX1_again_13 rfl rfl so2 rfl ?_
    exact lo_X1_again hm hS.mo (by unfold sp_again; rw [if_neg (by have := btw_t.mp hc4; omega)]) S.2.1.length 0 1 none (by omega) rfl
  · refine r_bipush 9 dX1_again_7 rfl bi_m3 ?_
    exact r_iret dX1_again_9 rfl (Nat.le_refl _) (Nat.le_refl _) (rv (by unfold sp_again; rw [if_pos (by have := btw_f.mp hc4; omega)]))

