/-! THE CLASS: reading a sea -/
set_option maxRecDepth 100000
theorem dg48 (x : Int32) : btw (x - nI 48).toInt 0 9 = btw x.toInt 48 57 := by
  have h1 := Int32.toInt_lt x
  have h2 := Int32.le_toInt x
  have h3 : (nI 48).toInt = 48 := by decide
  unfold btw
  rw [sb_om, h3]
  exact decide_eq_decide.mpr ⟨fun h => by omega, fun h => by omega⟩
def sil (il : Nat) : Sum Nat (List Mo) → Sum Nat (Nat × List Mo)
  | .inl e => .inl e
  | .inr l => .inr (il, l)
def tdI : Sum Nat Nat → Int32
  | .inl x => -1 - nI x
  | .inr y => nI y
theorem m2_1 : ∀ p, p < 100 → (-2 : Int32) - nI p = -1 - nI (p + 1) := by decide
theorem m99 (x : Int32) : (-99 : Int32) + (-1 - x) = nI 0 - nI 100 - x := by
  rw [Int32.sub_eq_add_neg, Int32.sub_eq_add_neg (nI 0 - nI 100), ← Int32.add_assoc]
  rfl
theorem m100 (x : Int32) : (-100 : Int32) - x = nI 0 - nI 100 - x := rfl
theorem m101 : ∀ x, x < 60 → (-101 : Int32) - nI x = nI 0 - nI 100 - nI (x + 1) := by decide
theorem m104 : ∀ x, x < 60 → (-104 : Int32) - nI x = nI 0 - nI 100 - nI (x + 4) := by decide
theorem td_x {c : Nat → Int32} {n p l h x : Nat} (hx : td c n p l h = .inl x) : x ≤ p + 1 := by
  rcases h1 : dg c n p with _ | t
  · rw [td_0 h1] at hx
    cases hx
    omega
  · by_cases h2 : 10 * t + 9 < l ∨ h < 10 * t
    · rw [td_1 h1 h2] at hx
      cases hx
      omega
    · rcases h3 : dg c n (p + 1) with _ | u
      · rw [td_2 h1 h2 h3] at hx
        cases hx
        omega
      · rw [td_3 h1 h2 h3] at hx
        split at hx <;> cases hx
        omega
theorem m1neg : ∀ x, x < 100 → ¬ (0 : Int32) ≤ -1 - nI x := by decide
theorem nneg {x : Nat} (h : x < 2 ^ 31) : (0 : Int32) ≤ nI x := nI_pos' h
set_option maxHeartbeats 4000000 in
theorem ev_X0_digitAt {w : WE} {A : Hp} {a N p : Nat} {c : Nat → Int32} (hA : A.1 a = some (eI w 0 N c)) (hN : N ≤ 60) (hp : p ≤ 1000) : EvI w mX0_digitAt 1 [.ref a, .int (nI p)] A (dgI (dg c N p)) := by
  refine Ev.mk 1 [some (.ref a), some (.int (nI p)), none] rfl plX0 (Nat.le_of_ble_eq_true rfl) ?_
  refine r_iload_n 1 dX0_digitAt_0 rfl rfl lo1 ?_
  refine r_aload_n 2 dX0_digitAt_1 rfl rfl lo0 ?_
  refine r_alen (t := 0) 3 dX0_digitAt_2 rfl rfl hA ?_
  first | refine r_icmp_geN 15 6 dX0_digitAt_3 rfl (by decide) (by omega) (by omega) (fun hc3 => ?_) (fun hc3 => ?_) | refine r_icmp_ge 15 6 dX0_digitAt_3 rfl (by decide) (fun hc3 => ?_) (fun hc3 => ?_)
  · refine r_bipush 17 dX0_digitAt_15 rfl bi_m9 ?_
    refine r_istore_n 18 dX0_digitAt_17 rfl rfl so2 rfl ?_
    refine r_iload_n 19 dX0_digitAt_18 rfl rfl lo2 ?_
    refine r_i2l 20 dX0_digitAt_19 rfl rfl ?_
    refine r_lconst 21 dX0_digitAt_20 rfl lc_0 ?_
    refine r_ldc2 24 dX0_digitAt_21 rfl q873 ?_
    refine r_cS3 27 dX0_digitAt_24 rfl sS_X0_11 (by rfl) (ev_X0_in _ 0 9 (Int32.toInt_toInt64 _) (by decide) (by decide)) ?_
    refine r_if_eqB 34 30 dX0_digitAt_27 rfl (by decide) (fun hc27 => ?_) (fun hc27 => ?_)
    · refine r_bipush 36 dX0_digitAt_34 rfl bi_m9 ?_
      exact r_iret dX0_digitAt_36 rfl (Nat.le_refl _) (Nat.le_refl _) (rv (by first | exact dgI_no (fun z => absurd z.1 (by omega)) | (rw [dg48] at hc27; first | exact dgI_no (fun z => by rw [hc27] at z; cases z.2) | exact dgI_yes hc3 hc27) | exact absurd hc27 (by decide)))
    · refine r_iload_n 31 dX0_digitAt_30 rfl rfl lo2 ?_
      refine r_goto 36 dX0_digitAt_31 (by decide) ?_
      exact r_iret dX0_digitAt_36 rfl (Nat.le_refl _) (Nat.le_refl _) (rv (by first | exact dgI_no (fun z => absurd z.1 (by omega)) | (rw [dg48] at hc27; first | exact dgI_no (fun z => by rw [hc27] at z; cases z.2) | exact dgI_yes hc3 hc27) | exact absurd hc27 (by decide)))
  · refine r_aload_n 7 dX0_digitAt_6 rfl rfl lo0 ?_
    refine r_iload_n 8 dX0_digitAt_7 rfl rfl lo1 ?_
    refine r_iald 9 dX0_digitAt_8 rfl hA _ rfl (by omega) (by omega) ?_
    refine r_bipush 11 dX0_digitAt_9 rfl bi_48 ?_
    refine r_isub 12 dX0_digitAt_11 rfl ?_
    refine r_goto 17 dX0_digitAt_12 (by decide) ?_
    refine r_istore_n 18 dX0_digitAt_17 rfl rfl so2 rfl ?_
    refine r_iload_n 19 dX0_digitAt_18 rfl rfl lo2 ?_
    refine r_i2l 20 dX0_digitAt_19 rfl rfl ?_
    refine r_lconst 21 dX0_digitAt_20 rfl lc_0 ?_
    refine r_ldc2 24 dX0_digitAt_21 rfl q873 ?_
    refine r_cS3 27 dX0_digitAt_24 rfl sS_X0_11 (by rfl) (ev_X0_in _ 0 9 (Int32.toInt_toInt64 _) (by decide) (by decide)) ?_
    refine r_if_eqB 34 30 dX0_digitAt_27 rfl (by decide) (fun hc27 => ?_) (fun hc27 => ?_)
    · refine r_bipush 36 dX0_digitAt_34 rfl bi_m9 ?_
      exact r_iret dX0_digitAt_36 rfl (Nat.le_refl _) (Nat.le_refl _) (rv (by first | exact dgI_no (fun z => absurd z.1 (by omega)) | (rw [dg48] at hc27; first | exact dgI_no (fun z => by rw [hc27] at z; cases z.2) | exact dgI_yes hc3 hc27) | exact absurd hc27 (by decide)))
    · refine r_iload_n 31 dX0_digitAt_30 rfl rfl lo2 ?_
      refine r_goto 36 dX0_digitAt_31 (by decide) ?_
      exact r_iret dX0_digitAt_36 rfl (Nat.le_refl _) (Nat.le_refl _) (rv (by first | exact dgI_no (fun z => absurd z.1 (by omega)) | (rw [dg48] at hc27; first | exact dgI_no (fun z => by rw [hc27] at z; cases z.2) | exact dgI_yes hc3 hc27) | exact absurd hc27 (by decide)))

theorem ev_dx_none {w : WE} {A : Hp} {a N p : Nat} {c : Nat → Int32} (hA : A.1 a = some (eI w 0 N c)) (hN : N ≤ 60) (hp : p ≤ 1000) (h : dg c N p = none) : EvI w mX0_digitAt 1 [.ref a, .int (nI p)] A (-9) := by
  have z := ev_X0_digitAt hA hN hp
  rw [h] at z
  exact z
theorem ev_dx_some {w : WE} {A : Hp} {a N p t : Nat} {c : Nat → Int32} (hA : A.1 a = some (eI w 0 N c)) (hN : N ≤ 60) (hp : p ≤ 1000) (h : dg c N p = some t) : EvI w mX0_digitAt 1 [.ref a, .int (nI p)] A (nI t) := by
  have z := ev_X0_digitAt hA hN hp
  rw [h] at z
  exact z
set_option maxHeartbeats 4000000 in
theorem ev_X0_twoAt {w : WE} {A : Hp} {a N p l h : Nat} {c : Nat → Int32} (hA : A.1 a = some (eI w 0 N c)) (hN : N ≤ 60) (hp : p ≤ 90) (hl : l ≤ 100) (hh : h ≤ 100) : EvI w mX0_twoAt 2 [.ref a, .int (nI p), .int (nI l), .int (nI h)] A (tdI (td c N p l h)) := by
  refine Ev.mk 2 [some (.ref a), some (.int (nI p)), some (.int (nI l)), some (.int (nI h)), none, none] rfl plX0 (Nat.le_of_ble_eq_true rfl) ?_
  rcases h1 : dg c N p with _ | t
  · skip
    refine r_aload_n 1 dX0_twoAt_0 rfl rfl lo0 ?_
    refine r_iload_n 2 dX0_twoAt_1 rfl rfl lo1 ?_
    refine r_cS2 5 dX0_twoAt_2 rfl sS_X0_73 (by rfl) (ev_dx_none hA hN (by omega) h1) ?_
    refine r_istore 7 dX0_twoAt_5 rfl so4 rfl ?_
    refine r_iload 9 dX0_twoAt_7 rfl lo4 ?_
    refine r_if_lt 33 12 dX0_twoAt_9 rfl (by decide) (fun hc9 => ?_) (fun hc9 => ?_)
    · refine r_iconst 34 dX0_twoAt_33 rfl ic_m1 ?_
      refine r_iload_n 35 dX0_twoAt_34 rfl rfl lo1 ?_
      refine r_isub 36 dX0_twoAt_35 rfl ?_
      exact r_iret dX0_twoAt_36 rfl (Nat.le_refl _) (Nat.le_refl _) (rv (by rw [td_0 h1]; rfl))
    · exact absurd (by decide) hc9
  · have t9 := dg_lt h1
    rcases h3 : dg c N (p + 1) with _ | u
    · skip
      refine r_aload_n 1 dX0_twoAt_0 rfl rfl lo0 ?_
      refine r_iload_n 2 dX0_twoAt_1 rfl rfl lo1 ?_
      refine r_cS2 5 dX0_twoAt_2 rfl sS_X0_73 (by rfl) (ev_dx_some hA hN (by omega) h1) ?_
      refine r_istore 7 dX0_twoAt_5 rfl so4 rfl ?_
      refine r_iload 9 dX0_twoAt_7 rfl lo4 ?_
      first | refine r_if_ltN 33 12 dX0_twoAt_9 rfl (by decide) (by omega) (fun hc9 => ?_) (fun hc9 => ?_) | refine r_if_lt 33 12 dX0_twoAt_9 rfl (by decide) (fun hc9 => ?_) (fun hc9 => ?_)
      · exact absurd hc9 (by omega)
      · refine r_bipush 14 dX0_twoAt_12 rfl bi_10 ?_
        refine r_iload 16 dX0_twoAt_14 rfl lo4 ?_
        first | refine r_imulN 17 dX0_twoAt_16 rfl ?_ | refine r_imul 17 dX0_twoAt_16 rfl ?_
        refine r_iload_n 18 dX0_twoAt_17 rfl rfl lo3 ?_
        first | refine r_icmp_gtN 33 21 dX0_twoAt_18 rfl (by decide) (by omega) (by omega) (fun hc18 => ?_) (fun hc18 => ?_) | refine r_icmp_gt 33 21 dX0_twoAt_18 rfl (by decide) (fun hc18 => ?_) (fun hc18 => ?_)
        · refine r_iconst 34 dX0_twoAt_33 rfl ic_m1 ?_
          refine r_iload_n 35 dX0_twoAt_34 rfl rfl lo1 ?_
          refine r_isub 36 dX0_twoAt_35 rfl ?_
          exact r_iret dX0_twoAt_36 rfl (Nat.le_refl _) (Nat.le_refl _) (rv (by rw [td_1 h1 (by omega)]; rfl))
        · refine r_bipush 23 dX0_twoAt_21 rfl bi_10 ?_
          refine r_iload 25 dX0_twoAt_23 rfl lo4 ?_
          first | refine r_imulN 26 dX0_twoAt_25 rfl ?_ | refine r_imul 26 dX0_twoAt_25 rfl ?_
          refine r_bipush 28 dX0_twoAt_26 rfl bi_9 ?_
          first | refine r_iaddN 29 dX0_twoAt_28 rfl ?_ | refine r_iadd 29 dX0_twoAt_28 rfl ?_
          refine r_iload_n 30 dX0_twoAt_29 rfl rfl lo2 ?_
          first | refine r_icmp_geN 37 33 dX0_twoAt_30 rfl (by decide) (by omega) (by omega) (fun hc30 => ?_) (fun hc30 => ?_) | refine r_icmp_ge 37 33 dX0_twoAt_30 rfl (by decide) (fun hc30 => ?_) (fun hc30 => ?_)
          · refine r_aload_n 38 dX0_twoAt_37 rfl rfl lo0 ?_
            refine r_iload_n 39 dX0_twoAt_38 rfl rfl lo1 ?_
            refine r_iconst 40 dX0_twoAt_39 rfl ic_1 ?_
            first | refine r_iaddN 41 dX0_twoAt_40 rfl ?_ | refine r_iadd 41 dX0_twoAt_40 rfl ?_
            refine r_cS2 44 dX0_twoAt_41 rfl sS_X0_73 (by rfl) (ev_dx_none hA hN (by omega) h3) ?_
            refine r_istore 46 dX0_twoAt_44 rfl so5 rfl ?_
            refine r_iload 48 dX0_twoAt_46 rfl lo5 ?_
            refine r_if_ge 56 51 dX0_twoAt_48 rfl (by decide) (fun hc48 => ?_) (fun hc48 => ?_)
            · exact absurd hc48 (by decide)
            · refine r_bipush 53 dX0_twoAt_51 rfl bi_m2 ?_
              refine r_iload_n 54 dX0_twoAt_53 rfl rfl lo1 ?_
              refine r_isub 55 dX0_twoAt_54 rfl ?_
              exact r_iret dX0_twoAt_55 rfl (Nat.le_refl _) (Nat.le_refl _) (rv (by rw [td_2 h1 (by omega) h3]; exact m2_1 p (by omega)))
          · refine r_iconst 34 dX0_twoAt_33 rfl ic_m1 ?_
            refine r_iload_n 35 dX0_twoAt_34 rfl rfl lo1 ?_
            refine r_isub 36 dX0_twoAt_35 rfl ?_
            exact r_iret dX0_twoAt_36 rfl (Nat.le_refl _) (Nat.le_refl _) (rv (by rw [td_1 h1 (by omega)]; rfl))
    · have u9 := dg_lt h3
      refine r_aload_n 1 dX0_twoAt_0 rfl rfl lo0 ?_
      refine r_iload_n 2 dX0_twoAt_1 rfl rfl lo1 ?_
      refine r_cS2 5 dX0_twoAt_2 rfl sS_X0_73 (by rfl) (ev_dx_some hA hN (by omega) h1) ?_
      refine r_istore 7 dX0_twoAt_5 rfl so4 rfl ?_
      refine r_iload 9 dX0_twoAt_7 rfl lo4 ?_
      first | refine r_if_ltN 33 12 dX0_twoAt_9 rfl (by decide) (by omega) (fun hc9 => ?_) (fun hc9 => ?_) | refine r_if_lt 33 12 dX0_twoAt_9 rfl (by decide) (fun hc9 => ?_) (fun hc9 => ?_)
      · exact absurd hc9 (by omega)
      · refine r_bipush 14 dX0_twoAt_12 rfl bi_10 ?_
        refine r_iload 16 dX0_twoAt_14 rfl lo4 ?_
        first | refine r_imulN 17 dX0_twoAt_16 rfl ?_ | refine r_imul 17 dX0_twoAt_16 rfl ?_
        refine r_iload_n 18 dX0_twoAt_17 rfl rfl lo3 ?_
        first | refine r_icmp_gtN 33 21 dX0_twoAt_18 rfl (by decide) (by omega) (by omega) (fun hc18 => ?_) (fun hc18 => ?_) | refine r_icmp_gt 33 21 dX0_twoAt_18 rfl (by decide) (fun hc18 => ?_) (fun hc18 => ?_)
        · refine r_iconst 34 dX0_twoAt_33 rfl ic_m1 ?_
          refine r_iload_n 35 dX0_twoAt_34 rfl rfl lo1 ?_
          refine r_isub 36 dX0_twoAt_35 rfl ?_
          exact r_iret dX0_twoAt_36 rfl (Nat.le_refl _) (Nat.le_refl _) (rv (by rw [td_1 h1 (by omega)]; rfl))
        · refine r_bipush 23 dX0_twoAt_21 rfl bi_10 ?_
          refine r_iload 25 dX0_twoAt_23 rfl lo4 ?_
          first | refine r_imulN 26 dX0_twoAt_25 rfl ?_ | refine r_imul 26 dX0_twoAt_25 rfl ?_
          refine r_bipush 28 dX0_twoAt_26 rfl bi_9 ?_
          first | refine r_iaddN 29 dX0_twoAt_28 rfl ?_ | refine r_iadd 29 dX0_twoAt_28 rfl ?_
          refine r_iload_n 30 dX0_twoAt_29 rfl rfl lo2 ?_
          first | refine r_icmp_geN 37 33 dX0_twoAt_30 rfl (by decide) (by omega) (by omega) (fun hc30 => ?_) (fun hc30 => ?_) | refine r_icmp_ge 37 33 dX0_twoAt_30 rfl (by decide) (fun hc30 => ?_) (fun hc30 => ?_)
          · refine r_aload_n 38 dX0_twoAt_37 rfl rfl lo0 ?_
            refine r_iload_n 39 dX0_twoAt_38 rfl rfl lo1 ?_
            refine r_iconst 40 dX0_twoAt_39 rfl ic_1 ?_
            first | refine r_iaddN 41 dX0_twoAt_40 rfl ?_ | refine r_iadd 41 dX0_twoAt_40 rfl ?_
            refine r_cS2 44 dX0_twoAt_41 rfl sS_X0_73 (by rfl) (ev_dx_some hA hN (by omega) h3) ?_
            refine r_istore 46 dX0_twoAt_44 rfl so5 rfl ?_
            refine r_iload 48 dX0_twoAt_46 rfl lo5 ?_
            first | refine r_if_geN 56 51 dX0_twoAt_48 rfl (by decide) (by omega) (fun hc48 => ?_) (fun hc48 => ?_) | refine r_if_ge 56 51 dX0_twoAt_48 rfl (by decide) (fun hc48 => ?_) (fun hc48 => ?_)
            · refine r_bipush 58 dX0_twoAt_56 rfl bi_10 ?_
              refine r_iload 60 dX0_twoAt_58 rfl lo4 ?_
              first | refine r_imulN 61 dX0_twoAt_60 rfl ?_ | refine r_imul 61 dX0_twoAt_60 rfl ?_
              refine r_iload 63 dX0_twoAt_61 rfl lo5 ?_
              first | refine r_iaddN 64 dX0_twoAt_63 rfl ?_ | refine r_iadd 64 dX0_twoAt_63 rfl ?_
              refine r_i2l 65 dX0_twoAt_64 rfl rfl ?_
              refine r_iload_n 66 dX0_twoAt_65 rfl rfl lo2 ?_
              refine r_i2l 67 dX0_twoAt_66 rfl rfl ?_
              refine r_iload_n 68 dX0_twoAt_67 rfl rfl lo3 ?_
              refine r_i2l 69 dX0_twoAt_68 rfl rfl ?_
              refine r_cS3 72 dX0_twoAt_69 rfl sS_X0_11 (by rfl) (ev_X0_in _ (l : Int) (h : Int) (Int32.toInt_toInt64 _) (by rw [Int32.toInt_toInt64]; exact nI_toInt (by omega)) (by rw [Int32.toInt_toInt64]; exact nI_toInt (by omega))) ?_
              refine r_if_eqB 86 75 dX0_twoAt_72 rfl (by decide) (fun hc72 => ?_) (fun hc72 => ?_)
              · refine r_iconst 87 dX0_twoAt_86 rfl ic_m1 ?_
                refine r_iload_n 88 dX0_twoAt_87 rfl rfl lo1 ?_
                refine r_isub 89 dX0_twoAt_88 rfl ?_
                exact r_iret dX0_twoAt_89 rfl (Nat.le_refl _) (Nat.le_refl _) (rv (by rw [nI_toInt (by omega)] at hc72; first | (have z := btw_t.mp hc72; rw [td_3 h1 (by omega) h3, if_pos (by omega)]; rfl) | (have z := btw_f.mp hc72; rw [td_3 h1 (by omega) h3, if_neg (by omega)]; rfl)))
              · refine r_bipush 77 dX0_twoAt_75 rfl bi_10 ?_
                refine r_iload 79 dX0_twoAt_77 rfl lo4 ?_
                first | refine r_imulN 80 dX0_twoAt_79 rfl ?_ | refine r_imul 80 dX0_twoAt_79 rfl ?_
                refine r_iload 82 dX0_twoAt_80 rfl lo5 ?_
                first | refine r_iaddN 83 dX0_twoAt_82 rfl ?_ | refine r_iadd 83 dX0_twoAt_82 rfl ?_
                refine r_goto 89 dX0_twoAt_83 (by decide) ?_
                exact r_iret dX0_twoAt_89 rfl (Nat.le_refl _) (Nat.le_refl _) (rv (by rw [nI_toInt (by omega)] at hc72; first | (have z := btw_t.mp hc72; rw [td_3 h1 (by omega) h3, if_pos (by omega)]; rfl) | (have z := btw_f.mp hc72; rw [td_3 h1 (by omega) h3, if_neg (by omega)]; rfl)))
            · exact absurd hc48 (by omega)
          · refine r_iconst 34 dX0_twoAt_33 rfl ic_m1 ?_
            refine r_iload_n 35 dX0_twoAt_34 rfl rfl lo1 ?_
            refine r_isub 36 dX0_twoAt_35 rfl ?_
            exact r_iret dX0_twoAt_36 rfl (Nat.le_refl _) (Nat.le_refl _) (rv (by rw [td_1 h1 (by omega)]; rfl))

theorem ev_tx_no {w : WE} {A : Hp} {a N p l h x : Nat} {c : Nat → Int32} (hA : A.1 a = some (eI w 0 N c)) (hN : N ≤ 60) (hp : p ≤ 90) (hl : l ≤ 100) (hh : h ≤ 100) (ht : td c N p l h = .inl x) : EvI w mX0_twoAt 2 [.ref a, .int (nI p), .int (nI l), .int (nI h)] A (-1 - nI x) := by
  have z := ev_X0_twoAt hA hN hp hl hh
  rw [ht] at z
  exact z
theorem ev_tx_ok {w : WE} {A : Hp} {a N p l h x : Nat} {c : Nat → Int32} (hA : A.1 a = some (eI w 0 N c)) (hN : N ≤ 60) (hp : p ≤ 90) (hl : l ≤ 100) (hh : h ≤ 100) (ht : td c N p l h = .inr x) : EvI w mX0_twoAt 2 [.ref a, .int (nI p), .int (nI l), .int (nI h)] A (nI x) := by
  have z := ev_X0_twoAt hA hN hp hl hh
  rw [ht] at z
  exact z
/-- what newSea answers -/
def nsQ (w : WE) (A0 : Hp) (S : ST) (z : Sum Nat (Nat × List Mo)) (v : Option Value) (A' : Hp) : Prop := match z with
  | .inl e => v = some (.int (nI 0 - nI 100 - nI e)) ∧ ∃ x' : XT, XS w A' x' S ∧ Fx w A0 A'
  | .inr (il, l) => v = some (.int (nI l.length)) ∧ ∃ x' : XT, XS w A' x' (il, l, [], S.2.2.2) ∧ Fx w A0 A'
/-- while it reads: the list at b, its row at re, the moons at ad -/
def RdL (w : WE) (A0 A : Hp) (x : XT) (S : ST) (a N b : Nat) (cc : Nat → Int32) (l : List Mo) (re cap : Nat) (ad : Nat → Nat) : Prop :=
  XS w A x S ∧ Fx w A0 A ∧ mb w + 22 < b ∧ b < re ∧ x.2.2.1.1 < b ∧ x.2.2.1.2 < b ∧ (a < b ∧ A.1 a = some (eI w 0 N cc)) ∧ (∃ (c : Int32) (g : Nat → Option Nat), A.1 b = some (.inr (7, alF c re l.length)) ∧ A.1 re = some (eR w 5 cap g) ∧ ∀ i, i < l.length → g i = some (ad i)) ∧ (l.length ≤ cap ∧ 3 ≤ cap ∧ cap ≤ 10) ∧ ∀ i q, l[i]? = some q → b < ad i ∧ A.1 (ad i) = some (.inr (2, moF q))
theorem xs_sea {w : WE} {A A' : Hp} {x : XT} {S : ST} {il : Nat} {l : List Mo} {em' capr : Nat} {cm cr : Int32} {gm gr : Nat → Option Nat} {ad : Nat → Nat} {B : Nat} (h : XS w A x S) (hB : mb w + 22 < B) (hlt : ∀ (q : Nat) (e : va_E), A.1 q = some e → q < B) (p0 : A'.1 (wb w) = some (.inr (0, xf (wb w) (va_up x.1 0 (nI il))))) (p1 : A'.1 (wb w + 1) = some (.inr (7, alF cm em' l.length))) (p2 : A'.1 em' = some (eR w 5 10 gm)) (p3 : (em' = x.2.2.1.1 ∧ wb w ≤ em') ∨ B ≤ em') (p4 : ∀ i, i < l.length → gm i = some (ad i))
    (r1 : A'.1 (wb w + 2) = some (.inr (7, alF cr x.2.2.1.2 0))) (r2 : A'.1 x.2.2.1.2 = some (eR w 5 capr gr)) (r3 : (dyn w x.2.2.1.2 ∧ capr = 10) ∨ (x.2.2.1.2 = de w ∧ capr = 0 ∧ gr = fun _ => none)) (p8 : ∀ q, q < B → q ≠ wb w → q ≠ wb w + 1 → q ≠ wb w + 2 → q ≠ em' → q ≠ x.2.2.1.2 → q ≠ x.2.2.1.1 → A'.1 q = A.1 q) (pde : de w ≠ x.2.2.1.2 → A'.1 (de w) = some (eR w 5 0 (fun _ => none))) (hmo : ∀ i q, l[i]? = some q → dyn w (ad i) ∧ A'.1 (ad i) = some (.inr (2, moF q))) (hok : StOk (il, l, [], S.2.2.2)) (hl10 : l.length ≤ 10) :
    XS w A' (va_up x.1 0 (nI il), x.2.1, (em', x.2.2.1.2), ad, x.2.2.2.2.1, x.2.2.2.2.2) (il, l, [], S.2.2.2) := by
  obtain ⟨⟨a1, a2, a3⟩, ⟨b1, b2⟩, ⟨c1, c2⟩, d, e, ⟨f1, f2, f3⟩, g⟩ := h
  have hb : wb w + 21 = mb w := rfl
  have he' : dyn w em' := by
    rcases p3 with ⟨p3, p3'⟩ | p3
    · rcases b1.ed with z | z
      · rw [p3]; exact z
      · omega
    · omega
  have hn0 : ∀ {q : Nat} {y : Nat × List Value}, A.1 q = some (.inr y) → q ≠ em' ∧ q ≠ x.2.2.1.2 ∧ q ≠ x.2.2.1.1 := fun {q y} hq => by
    obtain ⟨_, _, _, _, u, _⟩ := b1
    obtain ⟨_, _, _, _, v, _⟩ := c1
    refine ⟨fun z => ?_, ne_io hq v, ne_io hq u⟩
    rcases p3 with p3 | p3
    · exact ne_io hq u (z.trans p3.1)
    · have := hlt _ _ hq
      omega
  have hn1 : ∀ {q t n : Nat} {y : Nat → Int32}, A.1 q = some (eI w t n y) → q ≠ em' ∧ q ≠ x.2.2.1.2 ∧ q ≠ x.2.2.1.1 := fun {q t n y} hq => by
    obtain ⟨_, _, _, _, u, _⟩ := b1
    obtain ⟨_, _, _, _, v, _⟩ := c1
    refine ⟨fun z => ?_, ne_ii hq v, ne_ii hq u⟩
    rcases p3 with p3 | p3
    · exact ne_ii hq u (z.trans p3.1)
    · have := hlt _ _ hq
      omega
  have hfx : ∀ k, k ≤ 20 → 3 ≤ k → A'.1 (wb w + k) = A.1 (wb w + k) := fun k h1 h2 => p8 _ (by omega) (by omega) (by omega) (by omega) (by omega) (by rcases c1.ed with z | z <;> omega) (by rcases b1.ed with z | z <;> omega)
  refine ⟨⟨p0, fun k hk => (hfx k (by rcases hk with h | h <;> omega) (by rcases hk with h | h <;> omega)).trans (a2 k hk), (hfx 4 (by decide) (by decide)).trans a3⟩, ⟨⟨cm, 10, gm, p1, p2, Or.inl ⟨he', rfl⟩, hl10, p4⟩, hmo⟩, ⟨⟨cr, capr, gr, r1, r2, r3, Nat.zero_le _, fun i hi => absurd hi (Nat.not_lt_zero _)⟩, fun i q hq => by cases hq⟩, ⟨(hfx 20 (by decide) (by decide)).trans d.1, fun k hk4 => ?_, d.2.2⟩, ⟨fun z => ?_, ?_, ?_, ?_⟩, ⟨?_, f2, f3⟩, hok⟩
  · rcases d.2.1 k hk4 with u | ⟨q, p, f, u1, u2, u3, u4, u5, u6, u7, u8, u9⟩
    · exact Or.inl u
    · have v1 := hn0 u7
      have v2 := hn1 u8
      exact Or.inr ⟨q, p, f, u1, u2, u3, u4, u5, u6, (p8 _ (hlt _ _ u7) (by omega) (by omega) (by omega) v1.1 v1.2.1 v1.2.2).trans u7, (p8 _ (hlt _ _ u8) (by omega) (by omega) (by omega) v2.1 v2.2.1 v2.2.2).trans u8, u9⟩
  · replace z : em' = x.2.2.1.2 := z
    rcases p3 with p3 | p3
    · have := e.1 (p3.1.symm.trans z)
      rcases b1.ed with u | u <;> omega
    · obtain ⟨_, _, _, _, u, _⟩ := c1
      have := hlt _ _ u
      omega
  · show va_up x.1 0 (nI il) 0 = _
    simp [va_up]
  · show va_up x.1 0 (nI il) 2 = _
    simp [va_up]
    exact e.2.2.1
  · show va_up x.1 0 (nI il) 12 = _
    simp [va_up]
    exact e.2.2.2
  · by_cases u : de w = x.2.2.1.2
    · rcases r3 with r3 | r3
      · omega
      · rw [u, r2, r3.2.1, r3.2.2]
    · exact pde u
set_option maxHeartbeats 4000000 in
theorem lf_X0_newSea {w : WE} {A0 A : Hp} {x : XT} {S : ST} {a N b il : Nat} {cc : Nat → Int32} {l : List Mo} {re cap : Nat} {ad : Nat → Nat} {z : Sum Nat (Nat × List Mo)} {x4 : Option Value} {x5 x6 x7 : Option Value} (hL : RdL w A0 A x S a N b cc l re cap ad) (hM : KM w) (hl1 : 1 ≤ l.length) (hl3 : l.length ≤ 3) (hmk : ∀ q ∈ l, MoOk q) (hil : 2 ≤ il ∧ il ≤ 6) (hz : z = .inr (il, l)) : Rn w mX0_newSea (rmX 6 10 65) (ZX w (nsQ w A0 S z) 10 65) (2 + 2 * l.length) (6 + 13 * l.length) A 223 [some (.ref (wb w)), some (.ref a), some (.int (nI il)), some (.ref b), x4, x5, x6, x7] [] := by
  have hb21 : wb w + 21 = mb w := rfl
  obtain ⟨hx, hF, hb0, hbr, hem, her, ⟨hab, hA⟩, ⟨c0, g0, hB, hE, hgi⟩, ⟨hlc, hc3, hc10⟩, hmo⟩ := hL
  subst hz
  refine r_fresh (fun hlt hwb => ?_)
  obtain ⟨⟨a1, a2, a3⟩, ⟨⟨cm, capm, gm, b1, b2, b3, b4, b5⟩, bm⟩, ⟨⟨cr, capr, gr, d1, d2, d3, d4, d5⟩, dm⟩, -, e1, ⟨f1, f2, f3⟩, -⟩ := id hx
  have hemw : (wb w ≤ x.2.2.1.1 ∧ capm = 10) ∨ (x.2.2.1.1 = de w ∧ capm = 0 ∧ gm = fun _ => none) := b3.imp (fun h => ⟨by omega, h.2⟩) id
  have hrew : wb w ≤ x.2.2.1.2 ∨ S.2.2.1.length = 0 := d3.imp (fun h => by omega) (fun h => by omega)
  have hne1 : x.2.2.1.1 ≠ wb w := fun q => absurd (q ▸ a1 : A.1 x.2.2.1.1 = _) (by rw [b2]; exact fun z => by cases z)
  have hne2 : x.2.2.1.2 ≠ wb w := fun q => absurd (q ▸ a1 : A.1 x.2.2.1.2 = _) (by rw [d2]; exact fun z => by cases z)
  have hn11 : x.2.2.1.1 ≠ wb w + 1 := Ne.symm (ne_io b1 b2)
  have hn12 : x.2.2.1.1 ≠ wb w + 2 := Ne.symm (ne_io d1 b2)
  have hn21 : x.2.2.1.2 ≠ wb w + 1 := Ne.symm (ne_io b1 d2)
  have hn22 : x.2.2.1.2 ≠ wb w + 2 := Ne.symm (ne_io d1 d2)
  have hre : re < A.2 := hlt _ _ hE
  refine r_aload_n 224 dX0_newSea_223 rfl rfl lo0 ?_
  refine r_iload_n 225 dX0_newSea_224 rfl rfl lo2 ?_
  refine r_put 228 dX0_newSea_225 rfl g_X0_61_0 cw_0 fw_0_0 hx.t (Nat.le_refl _) so0 (Nat.le_of_ble_eq_true rfl) rfl rfl ?_
  have u0 : ∀ (A1 : Hp), A1 = hp_up A (wb w) (.inr (0, xf (wb w) (va_up x.1 0 (nI il)))) → Rn w mX0_newSea (rmX 6 10 65) (ZX w (nsQ w A0 S (.inr (il, l))) 10 65) (2 + 2 * l.length) (6 + 13 * l.length) A1 228 [some (.ref (wb w)), some (.ref a), some (.int (nI il)), some (.ref b), x4, x5, x6, x7] [] := by
    intro A1 hA1
    have v0 : A1.1 (wb w) = some (.inr (0, xf (wb w) (va_up x.1 0 (nI il)))) := by rw [hA1]; exact hp_up_s
    have vn : ∀ q, q ≠ wb w → A1.1 q = A.1 q := fun q hq => by rw [hA1]; exact hp_up_n hq
    have vz : A1.2 = A.2 := by rw [hA1]; rfl
    refine r_aload_n 229 dX0_newSea_228 rfl rfl lo0 ?_
    refine r_get 232 dX0_newSea_229 rfl g_X0_24_0 v0 lo1 ?_
    refine rx_F0v 237 dX0_newSea_232 rfl sF_X0_101_7 ((vn _ (by omega)).trans b1) (cOk_of (by decide) (by decide) (by show 2 + 2 * l.length + 0 ≤ 10; omega) (by show 6 + 13 * l.length + 0 ≤ 65; omega) (Nat.le_of_ble_eq_true rfl)) (ev_J2_clear ((vn _ (by omega)).trans b1) ((vn _ hne1).trans b2) (by omega) (by rcases b3 with h | h <;> omega) b4 (by rcases b3 with h | h <;> omega)) (fun A2 hP => ?_)
    obtain ⟨p1, ⟨g2, p2, p2'⟩, pz, pn⟩ := hP
    have wn : ∀ q, q ≠ wb w → q ≠ wb w + 1 → q ≠ x.2.2.1.1 → A2.1 q = A.1 q := fun q q0 q1 q2 => (pn q q1 q2).trans (vn q q0)
    have w0 : A2.1 (wb w) = some (.inr (0, xf (wb w) (va_up x.1 0 (nI il)))) := (pn _ (by omega) (Ne.symm hne1)).trans v0
    have wB : A2.1 b = some (.inr (7, alF c0 re l.length)) := (wn b (by omega) (by omega) (by omega)).trans hB
    have wE : A2.1 re = some (eR w 5 cap g0) := (wn re (by omega) (by omega) (by omega)).trans hE
    have wm : ∀ i q, l[i]? = some q → A2.1 (ad i) = some (.inr (2, moF q)) := fun i q hq => (wn _ (by have := (hmo i q hq).1; omega) (by have := (hmo i q hq).1; omega) (by have := (hmo i q hq).1; omega)).trans (hmo i q hq).2
    have hel : ∀ i, i < l.length → ∀ y, g0 i = some y → ∃ fs : List Value, A2.1 y = some (.inr (2, fs)) := fun i hi y hy => by
      obtain ⟨q, hq⟩ := get_of_lt hi
      rw [hgi i hi] at hy
      cases hy
      exact ⟨_, wm i q hq⟩
    have hdy2 : (wb w ≤ x.2.2.1.1 ∧ capm = 10) ∨ (x.2.2.1.1 = de w ∧ capm = 0 ∧ g2 = fun _ => none) := by
      rcases hemw with h | h
      · exact Or.inl h
      · exact Or.inr ⟨h.1, h.2.1, (p2' (by omega)).trans h.2.2⟩
    refine r_aload_n 238 dX0_newSea_237 rfl rfl lo0 ?_
    refine r_get 241 dX0_newSea_238 rfl g_X0_24_0 w0 lo1 ?_
    refine r_aload_n 242 dX0_newSea_241 rfl rfl lo3 ?_
    refine rx_F1x 247 dX0_newSea_242 rfl sF_X0_104_7 p1 (cOk_of (by decide) (by decide) (by show 2 + 2 * l.length + 2 ≤ 10; omega) (by show 6 + 13 * l.length + 20 ≤ 65; omega) (Nat.le_of_ble_eq_true rfl)) (ev_J2_addAll p1 p2 f2 hM (by omega) hdy2 (by omega) wB wE hl1 hl3 hlc hc10 ⟨RX5, TX5, 3, rfl, Or.inr q1511⟩ (by decide) hel) (fun A3 hP => ?_)
    obtain ⟨e', g3, s1, s2, s3, s4, s5, s6, s7⟩ := hP
    have hA2 : A2.2 = A.2 := pz.trans vz
    rw [hA2] at s3 s4 s7
    have he'e : e' = x.2.2.1.1 ∨ A.2 ≤ e' := s3.imp (fun h => h.1) id
    have her' : x.2.2.1.2 ≠ e' := fun q => by
      rcases s3 with h | h
      · have := e1.1 (h.1.symm.trans q.symm)
        omega
      · omega
    have tn : ∀ q, q < A.2 → q ≠ wb w → q ≠ wb w + 1 → q ≠ x.2.2.1.1 → q ≠ e' → A3.1 q = A.1 q := fun q ql q0 q1 q2 q3 => (s7 q q1 q3 ql).trans (wn q q0 q1 q2)
    have hwe' : wb w ≠ e' := fun q => by
      have := s2
      rw [← q, s7 (wb w) (by omega) (by omega) (by omega), w0] at this
      cases this
    have t0 : A3.1 (wb w) = some (.inr (0, xf (wb w) (va_up x.1 0 (nI il)))) := (s7 _ (by omega) hwe' (by omega)).trans w0
    have hr12 : x.2.2.1.2 = x.2.2.1.1 → x.2.2.1.2 = de w := fun q => q.trans (e1.1 q.symm)
    refine r_pop 248 dX0_newSea_247 rfl rfl ?_
    refine r_aload_n 249 dX0_newSea_248 rfl rfl lo0 ?_
    refine r_get 252 dX0_newSea_249 rfl g_X0_28_0 t0 lo3 ?_
    have hw2e : wb w + 2 ≠ e' := fun q => by rcases he'e with h | h <;> omega
    have d1' : A3.1 (wb w + 2) = some (.inr (7, alF cr x.2.2.1.2 S.2.2.1.length)) := (tn _ (by omega) (by omega) (by omega) (Ne.symm hn12) hw2e).trans d1
    have d2' : ∃ gg : Nat → Option Nat, A3.1 x.2.2.1.2 = some (eR w 5 capr gg) ∧ (capr = 0 → gg = gr) := by
      by_cases q : x.2.2.1.2 = x.2.2.1.1
      · have qd := hr12 q
        have h0 : A3.1 x.2.2.1.2 = A2.1 x.2.2.1.2 := s7 _ hn21 her' (by omega)
        have hc0 : capm = 0 ∧ gm = fun _ => none := by rcases hemw with h | h <;> first | omega | exact h.2
        have hcr : capr = 0 ∧ gr = fun _ => none := by rcases d3 with h | h <;> first | omega | exact h.2
        refine ⟨g2, ?_, fun _ => ?_⟩
        · rw [h0, q, p2, hcr.1, hc0.1]
        · rw [p2' (by omega), hc0.2, hcr.2]
      · exact ⟨gr, (tn _ (by omega) hne2 hn21 q her').trans d2, fun _ => rfl⟩
    obtain ⟨gg, d2', d2z⟩ := d2'
    refine rx_F0v 257 dX0_newSea_252 rfl sF_X0_101_7 d1' (cOk_of (by decide) (by decide) (by show 2 + 2 * l.length + 2 + 0 ≤ 10; omega) (by show 6 + 13 * l.length + 20 + 0 ≤ 65; omega) (Nat.le_of_ble_eq_true rfl)) (ev_J2_clear d1' d2' (by omega) hrew d4 (by rcases d3 with h | h <;> omega)) (fun A4 hP => ?_)
    obtain ⟨y1, ⟨g4, y2, y2'⟩, yz, yn⟩ := hP
    have h1e : wb w + 1 ≠ e' := fun q => by rcases he'e with h | h <;> omega
    have z1 : A4.1 (wb w + 1) = some (.inr (7, alF (cm + nI 1 + nI 1) e' l.length)) := (yn _ (by omega) (Ne.symm hn21)).trans s1
    have z0 : A4.1 (wb w) = some (.inr (0, xf (wb w) (va_up x.1 0 (nI il)))) := (yn _ (by omega) (Ne.symm hne2)).trans t0
    refine r_aload_n 258 dX0_newSea_257 rfl rfl lo0 ?_
    refine r_get 261 dX0_newSea_258 rfl g_X0_24_0 z0 lo1 ?_
    refine r_cF0 266 dX0_newSea_261 rfl sF_X0_65_7 z1 (cOk_of (by decide) (by decide) (by show 2 + 2 * l.length + 2 + 0 ≤ 10; omega) (by show 6 + 13 * l.length + 20 + 0 ≤ 65; omega) (Nat.le_of_ble_eq_true rfl)) (ev_J2_size z1) ?_
    refine r_wide 10 65 (by omega) (by omega) ?_
    have hX := xs_sea (A' := A4) (B := A.2) (il := il) (l := l) (em' := e') (capr := capr) (cm := cm + nI 1 + nI 1) (cr := cr + nI 1) (gm := g3) (gr := g4) (ad := ad) hx (by omega) hlt z0 z1 ((yn _ (Ne.symm hw2e) (Ne.symm her')).trans s2) (s3.imp (fun h => ⟨h.1, by omega⟩) id) (fun i hi => (s6 i hi).trans (hgi i hi)) y1 y2 (d3.imp id (fun h => ⟨h.1, h.2.1, (y2' (by omega)).trans ((d2z h.2.1).trans h.2.2)⟩)) (fun q ql q0 q1 q2 q3 q4 q5 => (yn q q2 q4).trans (tn q ql q0 q1 q5 q3)) (fun u => (yn _ (by omega) u).trans ((s7 _ (by omega) (by rcases s3 with h | h <;> omega) (by omega)).trans (by
        by_cases q : de w = x.2.2.1.1
        · have hc0 : capm = 0 ∧ gm = fun _ => none := by rcases b3 with h | h <;> first | omega | exact h.2
          rw [q, p2, p2' (by omega), hc0.1, hc0.2]
        · exact (wn _ (by omega) (by omega) q).trans f1))) (fun i q hq => by
        have h1 := (hmo i q hq).1
        have h2 := hlt _ _ (hmo i q hq).2
        have h3 : ad i ≠ e' := fun z => by
          rcases he'e with h | h <;> omega
        exact ⟨by omega, (yn _ (by omega) (by omega)).trans ((s7 _ (by omega) h3 h2).trans (wm i q hq))⟩) ⟨⟨Or.inr ⟨hil.1, hil.2, hl1⟩, fun q hq => by cases hq⟩, hl3, hmk, Nat.zero_le _, fun q hq => by cases hq⟩ (by omega)
    have hF4 : Fx w A0 A4 := hF.tr ⟨by omega, fun q q1 q2 => (yn q (by omega) (by rcases d3 with h | h <;> omega)).trans (tn q (by omega) (by omega) (by omega) (by rcases b3 with h | h <;> omega) (by rcases he'e with h | h <;> first | omega | (rw [h]; rcases b3 with h | h <;> omega)))⟩
    exact r_iret dX0_newSea_266 rfl (Nat.le_refl _) (Nat.le_refl _) ⟨rfl, _, hX, hF4⟩
  exact u0 _ rfl

theorem apM {l : List Mo} {q : Mo} : (l ++ [q]).length = l.length + 1 := by rw [List.length_append]; rfl
theorem inc7 {n : Nat} : nI n + Int32.ofInt 7 = nI (n + 7) := nI_add n 7
theorem xs_keepL {w : WE} {A A2 : Hp} {x : XT} {S : ST} {b re : Nat} (h : XS w A x S) (hlt : ∀ (q : Nat) (e : va_E), A.1 q = some e → q < A.2) (hk : ∀ q, q < A.2 → q ≠ b → q ≠ re → A2.1 q = A.1 q) (h1 : x.2.2.1.1 < b) (h2 : x.2.2.1.2 < b) (h3 : mb w + 22 < b) (h4 : b < re) (hB : ∃ y, A.1 b = some (.inr (7, y))) (hE : ∃ (n : Nat) (g : Nat → Option Nat), A.1 re = some (eR w 5 n g)) : XS w A2 x S := by
  obtain ⟨⟨a1, a2, a3⟩, ⟨b1, b2⟩, ⟨c1, c2⟩, d, e, ⟨f1, f2, f3⟩, g⟩ := h
  obtain ⟨y, hB⟩ := hB
  obtain ⟨nE, gE, hE⟩ := hE
  have hb : wb w + 21 = mb w := rfl
  have ks : ∀ q, q < b → Kp A A2 q := fun q hq z hz => (hk q (hlt _ _ hz) (by omega) (by omega)).trans hz
  have ko : ∀ {q : Nat} {ci : Nat} {fs : List Value}, ci ≠ 7 → A.1 q = some (.inr (ci, fs)) → A2.1 q = some (.inr (ci, fs)) := fun {q ci fs} hc hq => (hk q (hlt _ _ hq) (ne_oo hq hB hc) (ne_io hq hE)).trans hq
  have ki : ∀ {q t n : Nat} {f : Nat → Int32}, A.1 q = some (eI w t n f) → A2.1 q = some (eI w t n f) := fun {q t n f} hq => (hk q (hlt _ _ hq) (Ne.symm (ne_io hB hq)) (ne_ii hq hE)).trans hq
  refine ⟨⟨ks _ (by omega) _ a1, fun k h => ki (a2 k h), ks _ (by omega) _ a3⟩, ⟨b1.keep (ks _ (by omega)) (ks _ h1), fun i q hq => ⟨(b2 i q hq).1, ko (by decide) (b2 i q hq).2⟩⟩, ⟨c1.keep (ks _ (by omega)) (ks _ h2), fun i q hq => ⟨(c2 i q hq).1, ko (by have := (g.2.2.2.2 q (List.mem_of_getElem? hq)).1; omega) (c2 i q hq).2⟩⟩, ⟨ks _ (by omega) _ d.1, fun k hk4 => ?_, d.2.2⟩, e, ⟨ks _ (by omega) _ f1, f2, f3⟩, g⟩
  rcases d.2.1 k hk4 with u | ⟨q, p, f, u1, u2, u3, u4, u5, u6, u7, u8, u9⟩
  · exact Or.inl u
  · exact Or.inr ⟨q, p, f, u1, u2, u3, u4, u5, u6, ko (by decide) u7, ki u8, u9⟩
set_option maxHeartbeats 4000000 in
theorem lm_X0_newSea {w : WE} {A0 A : Hp} {x : XT} {S : ST} {a N b il : Nat} {cc : Nat → Int32} {l : List Mo} {re cap : Nat} {ad : Nat → Nat}  {zz : Sum Nat (List Mo)} {j p : Nat} {x5 x6 x7 : Option Value} (hN : N ≤ 60) (ih : ∀ (p : Nat) (l : List Mo) (A : Hp) (re cap : Nat) (ad : Nat → Nat) (x5 x6 x7 : Option Value), j + l.length = 4 → l.length ≤ 3 → p = 2 + 7 * l.length → (∀ q ∈ l, MoOk q) → RdL w A0 A x S a N b cc l re cap ad → zz = rms cc N j p l → Rn w mX0_newSea (rmX 6 10 65) (ZX w (nsQ w A0 S (sil il zz)) 10 65) (2 + 2 * l.length) (6 + 13 * l.length) A 51 [some (.ref (wb w)), some (.ref a), some (.int (nI il)), some (.ref b), some (.int (nI p)), x5, x6, x7] []) (hj : j + 1 + l.length = 4) (hp : p = 2 + 7 * l.length) (hmk : ∀ q ∈ l, MoOk q) (hL : RdL w A0 A x S a N b cc l re cap ad) (hne : ¬ (1 ≤ l.length ∧ N ≤ p)) (hz : zz = rms cc N (j + 1) p l) : Rn w mX0_newSea (rmX 6 10 65) (ZX w (nsQ w A0 S (sil il zz)) 10 65) (2 + 2 * l.length) (6 + 13 * l.length) A 67 [some (.ref (wb w)), some (.ref a), some (.int (nI il)), some (.ref b), some (.int (nI p)), x5, x6, x7] [] := by
  have hb21 : wb w + 21 = mb w := rfl
  obtain ⟨hx, hF, hb0, hbr, hem, her, ⟨hab, hA⟩, ⟨c0, g0, hB, hE, hgi⟩, ⟨hlc, hc3, hc10⟩, hmo⟩ := hL
  have hl3 : l.length ≤ 3 := by omega
  refine r_aload_n 68 dX0_newSea_67 rfl rfl lo3 ?_
  refine r_cF0 73 dX0_newSea_68 rfl sF_X0_65_7 hB (cOk_of (by decide) (by decide) (by show 2 + 2 * l.length + 0 ≤ 10; omega) (by show 6 + 13 * l.length + 0 ≤ 65; omega) (Nat.le_of_ble_eq_true rfl)) (ev_J2_size hB) ?_
  refine r_iconst 74 dX0_newSea_73 rfl ic_3 ?_
  first | refine r_icmp_eqN 93 77 dX0_newSea_74 rfl (by decide) (by omega) (by omega) (fun hc74 => ?_) (fun hc74 => ?_) | refine r_icmp_eq 93 77 dX0_newSea_74 rfl (by decide) (fun hc74 => ?_) (fun hc74 => ?_)
  · refine r_bipush 95 dX0_newSea_93 rfl bi_m100 ?_
    refine r_iload 97 dX0_newSea_95 rfl lo4 ?_
    refine r_isub 98 dX0_newSea_97 rfl ?_
    refine r_wide 10 65 (by omega) (by omega) ?_
    exact r_iret dX0_newSea_98 rfl (Nat.le_refl _) (Nat.le_refl _) (by rw [hz, rms_bad hne (by first | exact Or.inl hc74 | exact Or.inr (fun z => hc90 z.2) | exact Or.inr (fun z => absurd z.1 (by omega)))]; exact ⟨rq (m100 _).symm, x, hx, hF⟩)
  · refine r_iload 79 dX0_newSea_77 rfl lo4 ?_
    refine r_aload_n 80 dX0_newSea_79 rfl rfl lo1 ?_
    refine r_alen (t := 0) 81 dX0_newSea_80 rfl rfl hA ?_
    first | refine r_icmp_geN 93 84 dX0_newSea_81 rfl (by decide) (by omega) (by omega) (fun hc81 => ?_) (fun hc81 => ?_) | refine r_icmp_ge 93 84 dX0_newSea_81 rfl (by decide) (fun hc81 => ?_) (fun hc81 => ?_)
    · refine r_bipush 95 dX0_newSea_93 rfl bi_m100 ?_
      refine r_iload 97 dX0_newSea_95 rfl lo4 ?_
      refine r_isub 98 dX0_newSea_97 rfl ?_
      refine r_wide 10 65 (by omega) (by omega) ?_
      exact r_iret dX0_newSea_98 rfl (Nat.le_refl _) (Nat.le_refl _) (by rw [hz, rms_bad hne (by first | exact Or.inl hc74 | exact Or.inr (fun z => hc90 z.2) | exact Or.inr (fun z => absurd z.1 (by omega)))]; exact ⟨rq (m100 _).symm, x, hx, hF⟩)
    · refine r_aload_n 85 dX0_newSea_84 rfl rfl lo1 ?_
      refine r_iload 87 dX0_newSea_85 rfl lo4 ?_
      refine r_iald 88 dX0_newSea_87 rfl hA _ rfl (by omega) (by omega) ?_
      refine r_bipush 90 dX0_newSea_88 rfl bi_59 ?_
      refine r_icmp_eq 99 93 dX0_newSea_90 rfl (by decide) (fun hc90 => ?_) (fun hc90 => ?_)
      · have h30 : l.length ≠ 3 := by omega
        have h59 : p < N ∧ cc p = nI 59 := ⟨hc81, hc90⟩
        refine r_iload 101 dX0_newSea_99 rfl lo4 ?_
        refine r_iconst 102 dX0_newSea_101 rfl ic_1 ?_
        first | refine r_iaddN 103 dX0_newSea_102 rfl ?_ | refine r_iadd 103 dX0_newSea_102 rfl ?_
        refine r_aload_n 104 dX0_newSea_103 rfl rfl lo1 ?_
        refine r_alen (t := 0) 105 dX0_newSea_104 rfl rfl hA ?_
        first | refine r_icmp_geN 119 108 dX0_newSea_105 rfl (by decide) (by omega) (by omega) (fun hc105 => ?_) (fun hc105 => ?_) | refine r_icmp_ge 119 108 dX0_newSea_105 rfl (by decide) (fun hc105 => ?_) (fun hc105 => ?_)
        · refine r_bipush 121 dX0_newSea_119 rfl bi_m101 ?_
          refine r_iload 123 dX0_newSea_121 rfl lo4 ?_
          refine r_isub 124 dX0_newSea_123 rfl ?_
          refine r_wide 10 65 (by omega) (by omega) ?_
          exact r_iret dX0_newSea_124 rfl (Nat.le_refl _) (Nat.le_refl _) (by rw [hz, rms_no hne h30 h59 (rmo_0 (by first | exact fun z => hc116 z.2 | exact fun z => absurd z.1 (by omega)))]; exact ⟨rq (m101 p (by omega)).symm, x, hx, hF⟩)
        · refine r_aload_n 109 dX0_newSea_108 rfl rfl lo1 ?_
          refine r_iload 111 dX0_newSea_109 rfl lo4 ?_
          refine r_iconst 112 dX0_newSea_111 rfl ic_1 ?_
          first | refine r_iaddN 113 dX0_newSea_112 rfl ?_ | refine r_iadd 113 dX0_newSea_112 rfl ?_
          refine r_iald 114 dX0_newSea_113 rfl hA _ rfl (by omega) (by omega) ?_
          refine r_bipush 116 dX0_newSea_114 rfl bi_109 ?_
          refine r_icmp_eq 125 119 dX0_newSea_116 rfl (by decide) (fun hc116 => ?_) (fun hc116 => ?_)
          · have h109 : p + 1 < N ∧ cc (p + 1) = nI 109 := ⟨hc105, hc116⟩
            rcases h1 : td cc N (p + 2) 2 30 with e1 | mo
            · have e1x := td_x h1
              refine r_aload_n 126 dX0_newSea_125 rfl rfl lo1 ?_
              refine r_iload 128 dX0_newSea_126 rfl lo4 ?_
              refine r_iconst 129 dX0_newSea_128 rfl ic_2 ?_
              first | refine r_iaddN 130 dX0_newSea_129 rfl ?_ | refine r_iadd 130 dX0_newSea_129 rfl ?_
              refine r_iconst 131 dX0_newSea_130 rfl ic_2 ?_
              refine r_bipush 133 dX0_newSea_131 rfl bi_30 ?_
              refine r_cS4 136 dX0_newSea_133 rfl sS_X0_88 (cOk_of (by decide) (by decide) (by show 2 + 2 * l.length + 0 ≤ 10; omega) (by show 6 + 13 * l.length + 0 ≤ 65; omega) (Nat.le_of_ble_eq_true rfl)) (ev_tx_no hA hN (by omega) (by omega) (by omega) h1) ?_
              refine r_istore 138 dX0_newSea_136 rfl so5 rfl ?_
              refine r_iload 140 dX0_newSea_138 rfl lo5 ?_
              refine r_if_ge 149 143 dX0_newSea_140 rfl (by decide) (fun hc140 => ?_) (fun hc140 => ?_)
              · exact absurd hc140 (m1neg _ (by omega))
              · refine r_bipush 145 dX0_newSea_143 rfl bi_m99 ?_
                refine r_iload 147 dX0_newSea_145 rfl lo5 ?_
                refine r_iadd 148 dX0_newSea_147 rfl ?_
                refine r_wide 10 65 (by omega) (by omega) ?_
                exact r_iret dX0_newSea_148 rfl (Nat.le_refl _) (Nat.le_refl _) (by rw [hz, rms_no hne h30 h59 (rmo_1 h109 h1)]; exact ⟨rq (m99 _).symm, x, hx, hF⟩)
            · have a1 := td_le h1
              refine r_aload_n 126 dX0_newSea_125 rfl rfl lo1 ?_
              refine r_iload 128 dX0_newSea_126 rfl lo4 ?_
              refine r_iconst 129 dX0_newSea_128 rfl ic_2 ?_
              first | refine r_iaddN 130 dX0_newSea_129 rfl ?_ | refine r_iadd 130 dX0_newSea_129 rfl ?_
              refine r_iconst 131 dX0_newSea_130 rfl ic_2 ?_
              refine r_bipush 133 dX0_newSea_131 rfl bi_30 ?_
              refine r_cS4 136 dX0_newSea_133 rfl sS_X0_88 (cOk_of (by decide) (by decide) (by show 2 + 2 * l.length + 0 ≤ 10; omega) (by show 6 + 13 * l.length + 0 ≤ 65; omega) (Nat.le_of_ble_eq_true rfl)) (ev_tx_ok hA hN (by omega) (by omega) (by omega) h1) ?_
              refine r_istore 138 dX0_newSea_136 rfl so5 rfl ?_
              refine r_iload 140 dX0_newSea_138 rfl lo5 ?_
              refine r_if_ge 149 143 dX0_newSea_140 rfl (by decide) (fun hc140 => ?_) (fun hc140 => ?_)
              · rcases h2 : dg cc N (p + 4) with _ | pl
                · skip
                  refine r_aload_n 150 dX0_newSea_149 rfl rfl lo1 ?_
                  refine r_iload 152 dX0_newSea_150 rfl lo4 ?_
                  refine r_iconst 153 dX0_newSea_152 rfl ic_4 ?_
                  first | refine r_iaddN 154 dX0_newSea_153 rfl ?_ | refine r_iadd 154 dX0_newSea_153 rfl ?_
                  refine r_cS2 157 dX0_newSea_154 rfl sS_X0_73 (cOk_of (by decide) (by decide) (by show 2 + 2 * l.length + 0 ≤ 10; omega) (by show 6 + 13 * l.length + 0 ≤ 65; omega) (Nat.le_of_ble_eq_true rfl)) (ev_dx_none hA hN (by omega) h2) ?_
                  refine r_istore 159 dX0_newSea_157 rfl so6 rfl ?_
                  refine r_iload 161 dX0_newSea_159 rfl lo6 ?_
                  refine r_iconst 162 dX0_newSea_161 rfl ic_1 ?_
                  refine r_icmp_ge 171 165 dX0_newSea_162 rfl (by decide) (fun hc162 => ?_) (fun hc162 => ?_)
                  · exact absurd hc162 (by decide)
                  · refine r_bipush 167 dX0_newSea_165 rfl bi_m104 ?_
                    refine r_iload 169 dX0_newSea_167 rfl lo4 ?_
                    refine r_isub 170 dX0_newSea_169 rfl ?_
                    refine r_wide 10 65 (by omega) (by omega) ?_
                    exact r_iret dX0_newSea_170 rfl (Nat.le_refl _) (Nat.le_refl _) (by rw [hz, rms_no hne h30 h59 (rmo_2 h109 h1 (Or.inl h2))]; exact ⟨rq (m104 p (by omega)).symm, x, hx, hF⟩)
                · have d2 := dg_lt h2
                  refine r_aload_n 150 dX0_newSea_149 rfl rfl lo1 ?_
                  refine r_iload 152 dX0_newSea_150 rfl lo4 ?_
                  refine r_iconst 153 dX0_newSea_152 rfl ic_4 ?_
                  first | refine r_iaddN 154 dX0_newSea_153 rfl ?_ | refine r_iadd 154 dX0_newSea_153 rfl ?_
                  refine r_cS2 157 dX0_newSea_154 rfl sS_X0_73 (cOk_of (by decide) (by decide) (by show 2 + 2 * l.length + 0 ≤ 10; omega) (by show 6 + 13 * l.length + 0 ≤ 65; omega) (Nat.le_of_ble_eq_true rfl)) (ev_dx_some hA hN (by omega) h2) ?_
                  refine r_istore 159 dX0_newSea_157 rfl so6 rfl ?_
                  refine r_iload 161 dX0_newSea_159 rfl lo6 ?_
                  refine r_iconst 162 dX0_newSea_161 rfl ic_1 ?_
                  first | refine r_icmp_geN 171 165 dX0_newSea_162 rfl (by decide) (by omega) (by omega) (fun hc162 => ?_) (fun hc162 => ?_) | refine r_icmp_ge 171 165 dX0_newSea_162 rfl (by decide) (fun hc162 => ?_) (fun hc162 => ?_)
                  · have hp1 : 1 ≤ pl := hc162
                    rcases h4 : td cc N (p + 5) 0 (mo - 1) with e4 | ag
                    · have e4x := td_x h4
                      refine r_aload_n 172 dX0_newSea_171 rfl rfl lo1 ?_
                      refine r_iload 174 dX0_newSea_172 rfl lo4 ?_
                      refine r_iconst 175 dX0_newSea_174 rfl ic_5 ?_
                      first | refine r_iaddN 176 dX0_newSea_175 rfl ?_ | refine r_iadd 176 dX0_newSea_175 rfl ?_
                      refine r_iconst 177 dX0_newSea_176 rfl ic_0 ?_
                      refine r_iload 179 dX0_newSea_177 rfl lo5 ?_
                      refine r_iconst 180 dX0_newSea_179 rfl ic_1 ?_
                      first | refine r_isubN 181 dX0_newSea_180 rfl (by omega) ?_ | refine r_isub 181 dX0_newSea_180 rfl ?_
                      refine r_cS4 184 dX0_newSea_181 rfl sS_X0_88 (cOk_of (by decide) (by decide) (by show 2 + 2 * l.length + 0 ≤ 10; omega) (by show 6 + 13 * l.length + 0 ≤ 65; omega) (Nat.le_of_ble_eq_true rfl)) (ev_tx_no hA hN (by omega) (by omega) (by omega) h4) ?_
                      refine r_istore 186 dX0_newSea_184 rfl so7 rfl ?_
                      refine r_iload 188 dX0_newSea_186 rfl lo7 ?_
                      refine r_if_ge 197 191 dX0_newSea_188 rfl (by decide) (fun hc188 => ?_) (fun hc188 => ?_)
                      · exact absurd hc188 (m1neg _ (by omega))
                      · refine r_bipush 193 dX0_newSea_191 rfl bi_m99 ?_
                        refine r_iload 195 dX0_newSea_193 rfl lo7 ?_
                        refine r_iadd 196 dX0_newSea_195 rfl ?_
                        refine r_wide 10 65 (by omega) (by omega) ?_
                        exact r_iret dX0_newSea_196 rfl (Nat.le_refl _) (Nat.le_refl _) (by rw [hz, rms_no hne h30 h59 (rmo_3 h109 h1 h2 hp1 h4)]; exact ⟨rq (m99 _).symm, x, hx, hF⟩)
                    · have a4 := td_le h4
                      refine r_aload_n 172 dX0_newSea_171 rfl rfl lo1 ?_
                      refine r_iload 174 dX0_newSea_172 rfl lo4 ?_
                      refine r_iconst 175 dX0_newSea_174 rfl ic_5 ?_
                      first | refine r_iaddN 176 dX0_newSea_175 rfl ?_ | refine r_iadd 176 dX0_newSea_175 rfl ?_
                      refine r_iconst 177 dX0_newSea_176 rfl ic_0 ?_
                      refine r_iload 179 dX0_newSea_177 rfl lo5 ?_
                      refine r_iconst 180 dX0_newSea_179 rfl ic_1 ?_
                      first | refine r_isubN 181 dX0_newSea_180 rfl (by omega) ?_ | refine r_isub 181 dX0_newSea_180 rfl ?_
                      refine r_cS4 184 dX0_newSea_181 rfl sS_X0_88 (cOk_of (by decide) (by decide) (by show 2 + 2 * l.length + 0 ≤ 10; omega) (by show 6 + 13 * l.length + 0 ≤ 65; omega) (Nat.le_of_ble_eq_true rfl)) (ev_tx_ok hA hN (by omega) (by omega) (by omega) h4) ?_
                      refine r_istore 186 dX0_newSea_184 rfl so7 rfl ?_
                      refine r_iload 188 dX0_newSea_186 rfl lo7 ?_
                      refine r_if_ge 197 191 dX0_newSea_188 rfl (by decide) (fun hc188 => ?_) (fun hc188 => ?_)
                      · refine r_aload_n 198 dX0_newSea_197 rfl rfl lo3 ?_
                        refine r_new 201 dX0_newSea_198 rfl sN_X0_92 dv_2 (by show 2 + 2 * l.length + 1 ≤ 10; omega) (by show 6 + 13 * l.length + 3 ≤ 65; omega) (fun hlt hwb => ?_)
                        have hB1 := (hp_new_n (e := .inr (2, [.int 0, .int 0, .int 0])) (Nat.ne_of_lt (hlt _ _ hB))).trans hB
                        have hE1 := (hp_new_n (e := .inr (2, [.int 0, .int 0, .int 0])) (Nat.ne_of_lt (hlt _ _ hE))).trans hE
                        refine r_dup 202 dX0_newSea_201 rfl rfl ?_
                        refine r_iload 204 dX0_newSea_202 rfl lo5 ?_
                        refine r_iload 206 dX0_newSea_204 rfl lo6 ?_
                        refine r_iload 208 dX0_newSea_206 rfl lo7 ?_
                        refine rx_I3v 211 dX0_newSea_208 rfl sI_X0_94 (cOk_of (by decide) (by decide) (by show 2 + 2 * l.length + 1 + 0 ≤ 10; omega) (by show 6 + 13 * l.length + 3 + 0 ≤ 65; omega) (Nat.le_of_ble_eq_true rfl)) (ev_X5_init hp_new_s hwb) (fun A1 hP => ?_)
                        obtain ⟨p1, p2, p3⟩ := hP
                        have hB2 := (p3 _ (Nat.ne_of_lt (hlt _ _ hB))).trans hB1
                        have hE2 := (p3 _ (Nat.ne_of_lt (hlt _ _ hE))).trans hE1
                        refine rx_F1x 216 dX0_newSea_211 rfl sF_X0_97_7 hB2 (cOk_of (by decide) (by decide) (by show 2 + 2 * l.length + 1 + 1 ≤ 10; omega) (by show 6 + 13 * l.length + 3 + 10 ≤ 65; omega) (Nat.le_of_ble_eq_true rfl)) (ev_J2_add (ci := 2) (n := l.length) (cap := cap) hB2 hE2 hx.2.2.2.2.2.1.2.1 (by omega) p1 ⟨RX5, TX5, 3, rfl, Or.inr q1511⟩ (by decide) (by omega) hc10 (Or.inl ⟨by omega, by omega⟩)) (fun A2 hP => ?_)
                        obtain ⟨e', cap', g', s1, s2, s3, s4, s5, s6, s7, s8⟩ := hP
                        have hrA := hlt _ _ hE
                        have hz1 : A1.2 = A.2 + 1 := p2
                        have he'0 : b < e' := by rcases s3 with h | h <;> omega
                        have he'A : e' = re ∨ A.2 < e' := by rcases s3 with h | h <;> omega
                        have hAe : A.2 ≠ e' := by rcases s3 with h | h <;> omega
                        have keep : ∀ q, q < A.2 → q ≠ b → q ≠ re → A2.1 q = A.1 q := fun q q1 q2 q3 => (s8 q q2 (by omega)).trans ((p3 q (by omega)).trans (hp_new_n (by omega)))
                        have hin : ∀ q : Nat, (q < mb w ∨ mb w + 22 < q) → q ≠ b → q ≠ re → Kp A A2 q := fun q _ q2 q3 y hy => (keep q (hlt _ _ hy) q2 q3).trans hy
                        have hdf : ∀ {q : Nat} {y : va_E}, A.1 q = some y → q < b → A2.1 q = some y := fun {q y} hq h => (keep q (by omega) (by omega) (by omega)).trans hq
                        refine r_pop 217 dX0_newSea_216 rfl rfl ?_
                        refine r_iinc 220 dX0_newSea_217 rfl lo4 inc7 so4 rfl ?_
                        refine r_goto 51 dX0_newSea_220 (by decide) ?_
                        refine r_wide (2 + 2 * (l ++ [(mo, pl, ag)]).length) (6 + 13 * (l ++ [(mo, pl, ag)]).length) (by rw [apM]; omega) (by rw [apM]; omega) ?_
                        have hok := (rmo_ok (rmo_4 h109 h1 h2 hp1 h4)).1
                        refine ih (p + 7) (l ++ [(mo, pl, ag)]) A2 e' cap' (fun i => if i = l.length then A.2 else ad i) _ _ _ (by rw [apM]; omega) (by rw [apM]; omega) (by rw [apM]; omega) (fun q hq => ?_) ⟨xs_keepL hx hlt keep hem her hb0 hbr ⟨_, hB⟩ ⟨_, _, hE⟩, ?_, hb0, he'0, hem, her, ⟨hab, hdf hA hab⟩, ⟨_, g', by rw [apM]; exact s1, s2, fun i hi => ?_⟩, ⟨by rw [apM]; omega, by rcases s3 with h | h <;> omega, by rcases s3 with h | h <;> omega⟩, fun i q hq => ?_⟩ (by rw [hz, rms_ok hne h30 h59 (rmo_4 h109 h1 h2 hp1 h4)])
                        · rcases List.mem_append.mp hq with h | h
                          · exact hmk q h
                          · cases List.mem_singleton.mp h
                            exact hok
                        · exact hF.tr ⟨by rcases s3 with h | h <;> omega, fun q q1 q2 => keep q (by omega) (by omega) (by omega)⟩
                        · rw [apM] at hi
                          by_cases e : i = l.length
                          · show g' i = some (if i = l.length then A.2 else ad i)
                            rw [if_pos e, e]
                            exact s6
                          · show g' i = some (if i = l.length then A.2 else ad i)
                            rw [if_neg e, s7 i (by omega)]
                            exact hgi i (by omega)
                        · show b < (if i = l.length then A.2 else ad i) ∧ A2.1 (if i = l.length then A.2 else ad i) = _
                          by_cases e : i < l.length
                          · rw [List.getElem?_append_left e] at hq
                            rw [if_neg (by omega)]
                            obtain ⟨m1, m2⟩ := hmo i q hq
                            exact ⟨m1, (keep _ (hlt _ _ m2) (by omega) (ne_io m2 hE)).trans m2⟩
                          · rw [List.getElem?_append_right (by omega)] at hq
                            have e2 : i = l.length := by
                              by_cases u : i = l.length
                              · exact u
                              · rw [List.getElem?_eq_none (by simp; omega)] at hq
                                cases hq
                            subst e2
                            simp at hq
                            subst hq
                            rw [if_pos rfl]
                            exact ⟨by omega, (s8 _ (by omega) hAe).trans p1⟩
                      · exact absurd (nneg (by omega)) hc188
                  · refine r_bipush 167 dX0_newSea_165 rfl bi_m104 ?_
                    refine r_iload 169 dX0_newSea_167 rfl lo4 ?_
                    refine r_isub 170 dX0_newSea_169 rfl ?_
                    refine r_wide 10 65 (by omega) (by omega) ?_
                    exact r_iret dX0_newSea_170 rfl (Nat.le_refl _) (Nat.le_refl _) (by rw [hz, rms_no hne h30 h59 (rmo_2 h109 h1 (Or.inr (by rw [h2, show pl = 0 by omega])))]; exact ⟨rq (m104 p (by omega)).symm, x, hx, hF⟩)
              · exact absurd (nneg (by omega)) hc140
          · refine r_bipush 121 dX0_newSea_119 rfl bi_m101 ?_
            refine r_iload 123 dX0_newSea_121 rfl lo4 ?_
            refine r_isub 124 dX0_newSea_123 rfl ?_
            refine r_wide 10 65 (by omega) (by omega) ?_
            exact r_iret dX0_newSea_124 rfl (Nat.le_refl _) (Nat.le_refl _) (by rw [hz, rms_no hne h30 h59 (rmo_0 (by first | exact fun z => hc116 z.2 | exact fun z => absurd z.1 (by omega)))]; exact ⟨rq (m101 p (by omega)).symm, x, hx, hF⟩)
      · refine r_bipush 95 dX0_newSea_93 rfl bi_m100 ?_
        refine r_iload 97 dX0_newSea_95 rfl lo4 ?_
        refine r_isub 98 dX0_newSea_97 rfl ?_
        refine r_wide 10 65 (by omega) (by omega) ?_
        exact r_iret dX0_newSea_98 rfl (Nat.le_refl _) (Nat.le_refl _) (by rw [hz, rms_bad hne (by first | exact Or.inl hc74 | exact Or.inr (fun z => hc90 z.2) | exact Or.inr (fun z => absurd z.1 (by omega)))]; exact ⟨rq (m100 _).symm, x, hx, hF⟩)

set_option maxHeartbeats 4000000 in
theorem lp_X0_newSea {w : WE} {A0 : Hp} {x : XT} {S : ST} {a N b il : Nat} {cc : Nat → Int32} {zz : Sum Nat (List Mo)} (hM : KM w) (hN : N ≤ 60) (hil : 2 ≤ il ∧ il ≤ 6) : ∀ (j p : Nat) (l : List Mo) (A : Hp) (re cap : Nat) (ad : Nat → Nat) (x5 x6 x7 : Option Value), j + l.length = 4 → l.length ≤ 3 → p = 2 + 7 * l.length → (∀ q ∈ l, MoOk q) → RdL w A0 A x S a N b cc l re cap ad → zz = rms cc N j p l → Rn w mX0_newSea (rmX 6 10 65) (ZX w (nsQ w A0 S (sil il zz)) 10 65) (2 + 2 * l.length) (6 + 13 * l.length) A 51 [some (.ref (wb w)), some (.ref a), some (.int (nI il)), some (.ref b), some (.int (nI p)), x5, x6, x7] [] := by
  intro j
  induction j with
  | zero =>
    intro p l A re cap ad x5 x6 x7 hj hl3 hp hmk hL hz
    obtain ⟨-, -, -, -, -, -, -, -, ⟨hlc, hc3, hc10⟩, -⟩ := id hL
    obtain ⟨hx, hF, hb0, hbr, hem, her, ⟨hab, hA⟩, ⟨c0, g0, hB, hE, hgi⟩, -, hmo⟩ := id hL
    refine r_wide 10 65 (by omega) (by omega) ?_
    exact (absurd hj (by omega))
  | succ j ih =>
    intro p l A re cap ad x5 x6 x7 hj hl3 hp hmk hL hz
    obtain ⟨hx, hF, hb0, hbr, hem, her, ⟨hab, hA⟩, ⟨c0, g0, hB, hE, hgi⟩, ⟨hlc, hc3, hc10⟩, hmo⟩ := id hL
    refine r_aload_n 52 dX0_newSea_51 rfl rfl lo3 ?_
    refine r_cF0 57 dX0_newSea_52 rfl sF_X0_84_7 hB (cOk_of (by decide) (by decide) (by show 2 + 2 * l.length + 0 ≤ 10; omega) (by show 6 + 13 * l.length + 0 ≤ 65; omega) (Nat.le_of_ble_eq_true rfl)) (ev_J2_isEmpty hB (by omega)) ?_
    refine r_if_neB 67 60 dX0_newSea_57 rfl (by decide) (fun hc57 => ?_) (fun hc57 => ?_)
    · have hl0 : l.length = 0 := of_decide_eq_true hc57
      exact lm_X0_newSea hN ih hj hp hmk hL (by omega) hz
    · have hl0 : ¬ l.length = 0 := of_decide_eq_false hc57
      refine r_iload 62 dX0_newSea_60 rfl lo4 ?_
      refine r_aload_n 63 dX0_newSea_62 rfl rfl lo1 ?_
      refine r_alen (t := 0) 64 dX0_newSea_63 rfl rfl hA ?_
      first | refine r_icmp_geN 223 67 dX0_newSea_64 rfl (by decide) (by omega) (by omega) (fun hc64 => ?_) (fun hc64 => ?_) | refine r_icmp_ge 223 67 dX0_newSea_64 rfl (by decide) (fun hc64 => ?_) (fun hc64 => ?_)
      · have hz2 : zz = .inr l := by rw [hz, rms_end ⟨by omega, hc64⟩]
        subst hz2
        exact lf_X0_newSea hL hM (by omega) (by omega) hmk hil rfl
      · exact lm_X0_newSea hN ih hj hp hmk hL (by omega) hz

theorem rsx_0 {c : Nat → Int32} {n : Nat} (h : ¬ (0 < n ∧ c 0 = nI 115)) : rsea c n = .inl 0 := if_neg h
theorem rsx_1 {c : Nat → Int32} {n : Nat} (h : 0 < n ∧ c 0 = nI 115) (h1 : dg c n 1 = none) : rsea c n = .inl 1 := by
  unfold rsea
  rw [if_pos h, h1]
theorem rsx_2 {c : Nat → Int32} {n k : Nat} (h : 0 < n ∧ c 0 = nI 115) (h1 : dg c n 1 = some k) (h2 : ¬ (2 ≤ k ∧ k ≤ 6)) : rsea c n = .inl 1 := by
  unfold rsea
  rw [if_pos h, h1]
  exact if_neg h2
theorem rsx_3 {c : Nat → Int32} {n k : Nat} (h : 0 < n ∧ c 0 = nI 115) (h1 : dg c n 1 = some k) (h2 : 2 ≤ k ∧ k ≤ 6) : rsea c n = sil k (rms c n 4 2 []) := by
  unfold rsea sil
  rw [if_pos h, h1]
  exact if_pos h2
set_option maxHeartbeats 4000000 in
theorem ev_X0_newSea {w : WE} {A : Hp} {x : XT} {S : ST} {a N : Nat} {cc : Nat → Int32} (hx : XS w A x S) (h22 : mb w + 22 < A.2) (hA : A.1 a = some (eI w 0 N cc)) (hN : N ≤ 60) (hM : KM w) : Ev w mX0_newSea 6 10 65 [.ref (wb w), .ref a] A (nsQ w A S (rsea cc N)) := by
  refine Ev.mk 6 [some (.ref (wb w)), some (.ref a), none, none, none, none, none, none] rfl plX0 (Nat.le_of_ble_eq_true rfl) ?_
  refine r_aload_n 1 dX0_newSea_0 rfl rfl lo1 ?_
  refine r_alen (t := 0) 2 dX0_newSea_1 rfl rfl hA ?_
  first | refine r_if_eqN 13 5 dX0_newSea_2 rfl (by decide) (by omega) (fun hc2 => ?_) (fun hc2 => ?_) | refine r_if_eq 13 5 dX0_newSea_2 rfl (by decide) (fun hc2 => ?_) (fun hc2 => ?_)
  · refine r_bipush 15 dX0_newSea_13 rfl bi_m100 ?_
    refine r_wide 10 65 (by decide) (by decide) ?_
    exact r_iret dX0_newSea_15 rfl (Nat.le_refl _) (Nat.le_refl _) (by rw [rsx_0 (by first | exact fun z => hc10 z.2 | exact fun z => absurd z.1 (by omega))]; exact ⟨rfl, x, hx, Fx.rf⟩)
  · refine r_aload_n 6 dX0_newSea_5 rfl rfl lo1 ?_
    refine r_iconst 7 dX0_newSea_6 rfl ic_0 ?_
    refine r_iald 8 dX0_newSea_7 rfl hA _ rfl (by omega) (by omega) ?_
    refine r_bipush 10 dX0_newSea_8 rfl bi_115 ?_
    refine r_icmp_eq 16 13 dX0_newSea_10 rfl (by decide) (fun hc10 => ?_) (fun hc10 => ?_)
    · have h0 : 0 < N ∧ cc 0 = nI 115 := ⟨by omega, hc10⟩
      rcases h1 : dg cc N 1 with _ | k
      · skip
        refine r_aload_n 17 dX0_newSea_16 rfl rfl lo1 ?_
        refine r_iconst 18 dX0_newSea_17 rfl ic_1 ?_
        refine r_cS2 21 dX0_newSea_18 rfl sS_X0_73 (by rfl) (ev_dx_none hA hN (by omega) h1) ?_
        refine r_istore_n 22 dX0_newSea_21 rfl rfl so2 rfl ?_
        refine r_iload_n 23 dX0_newSea_22 rfl rfl lo2 ?_
        refine r_i2l 24 dX0_newSea_23 rfl rfl ?_
        refine r_ldc2 27 dX0_newSea_24 rfl q255 ?_
        refine r_ldc2 30 dX0_newSea_27 rfl q257 ?_
        refine r_cS3 33 dX0_newSea_30 rfl sS_X0_11 (by rfl) (ev_X0_in _ 2 6 (Int32.toInt_toInt64 _) (by decide) (by decide)) ?_
        refine r_if_neB 39 36 dX0_newSea_33 rfl (by decide) (fun hc33 => ?_) (fun hc33 => ?_)
        · exact absurd hc33 (by decide)
        · refine r_bipush 38 dX0_newSea_36 rfl bi_m101 ?_
          refine r_wide 10 65 (by decide) (by decide) ?_
          exact r_iret dX0_newSea_38 rfl (Nat.le_refl _) (Nat.le_refl _) (by rw [rsx_1 h0 h1]; exact ⟨rfl, x, hx, Fx.rf⟩)
      · have k9 := dg_lt h1
        refine r_aload_n 17 dX0_newSea_16 rfl rfl lo1 ?_
        refine r_iconst 18 dX0_newSea_17 rfl ic_1 ?_
        refine r_cS2 21 dX0_newSea_18 rfl sS_X0_73 (by rfl) (ev_dx_some hA hN (by omega) h1) ?_
        refine r_istore_n 22 dX0_newSea_21 rfl rfl so2 rfl ?_
        refine r_iload_n 23 dX0_newSea_22 rfl rfl lo2 ?_
        refine r_i2l 24 dX0_newSea_23 rfl rfl ?_
        refine r_ldc2 27 dX0_newSea_24 rfl q255 ?_
        refine r_ldc2 30 dX0_newSea_27 rfl q257 ?_
        refine r_cS3 33 dX0_newSea_30 rfl sS_X0_11 (by rfl) (ev_X0_in _ 2 6 (Int32.toInt_toInt64 _) (by decide) (by decide)) ?_
        refine r_if_neB 39 36 dX0_newSea_33 rfl (by decide) (fun hc33 => ?_) (fun hc33 => ?_)
        · have hk := btw_t.mp hc33
          rw [nI_toInt (by omega)] at hk
          refine r_new 42 dX0_newSea_39 rfl sN_X0_21 dv_7 (by decide) (by decide) (fun hlt hwb => ?_)
          refine r_dup 43 dX0_newSea_42 rfl rfl ?_
          refine r_iconst 44 dX0_newSea_43 rfl ic_3 ?_
          refine rx_I1v 47 dX0_newSea_44 rfl sI_X0_81 (by rfl) (ev_J2_init_2 hp_new_s hwb) (fun A1 hP => ?_)
          obtain ⟨p1, p2, p3, p4⟩ := hP
          refine r_astore_n 48 dX0_newSea_47 rfl rfl so3 rfl ?_
          refine r_iconst 49 dX0_newSea_48 rfl ic_2 ?_
          refine r_istore 51 dX0_newSea_49 rfl so4 rfl ?_
          obtain ⟨⟨a1, a2, a3⟩, ⟨⟨cm, capm, gm, b1, b2, b3, b4, b5⟩, bm⟩, ⟨⟨cr, capr, gr, d1, d2, d3, d4, d5⟩, dm⟩, -⟩ := id hx
          have hkp : ∀ q, q < A.2 → A1.1 q = A.1 q := fun q hq => (p4 q (by omega) (by show q ≠ A.2 + 1; omega)).trans (hp_new_n (by omega))
          have hx1 : XS w A1 x S := hx.keep (fun q _ y hy => (hkp q (hlt _ _ hy)).trans hy)
          have hF1 : Fx w A A1 := ⟨by rw [p3]; show A.2 ≤ A.2 + 1 + 1; omega, fun q q1 q2 => hkp q (by omega)⟩
          rw [rsx_3 h0 h1 (by omega)]
          exact lp_X0_newSea (a := a) (N := N) (cc := cc) (x := x) (S := S) hM hN (by omega) 4 2 [] A1 (A.2 + 1) 3 (fun _ => 0) none none none rfl (by decide) rfl (fun q hq => by cases hq) ⟨hx1, hF1, h22, by omega, hlt _ _ b2, hlt _ _ d2, ⟨hlt _ _ hA, (hkp _ (hlt _ _ hA)).trans hA⟩, ⟨_, _, p1, p2, fun i hi => absurd hi (Nat.not_lt_zero _)⟩, ⟨Nat.zero_le _, by decide, by decide⟩, fun i q hq => by cases hq⟩ rfl
        · refine r_bipush 38 dX0_newSea_36 rfl bi_m101 ?_
          refine r_wide 10 65 (by decide) (by decide) ?_
          exact r_iret dX0_newSea_38 rfl (Nat.le_refl _) (Nat.le_refl _) (by rw [rsx_2 h0 h1 (fun z => by have := btw_f.mp hc33; rw [nI_toInt (by omega)] at this; omega)]; exact ⟨rfl, x, hx, Fx.rf⟩)
    · refine r_bipush 15 dX0_newSea_13 rfl bi_m100 ?_
      refine r_wide 10 65 (by decide) (by decide) ?_
      exact r_iret dX0_newSea_15 rfl (Nat.le_refl _) (Nat.le_refl _) (by rw [rsx_0 (by first | exact fun z => hc10 z.2 | exact fun z => absurd z.1 (by omega))]; exact ⟨rfl, x, hx, Fx.rf⟩)

