/-! THE CLASS: sheet -/
set_option maxRecDepth 100000
set_option maxHeartbeats 4000000 in
theorem ev_X11_init {w : WE} {A : Hp} {a r : Nat} {f0 : Value} (hA : A.1 a = some (.inr (6, [f0]))) (hba : wb w ≤ a) : EvP w mX11_init 1 0 0 [.ref a, .ref r] A none (fun A' => A' = hp_up A a (.inr (6, [.ref r]))) := by
  refine Ev.mk 0 [some (.ref a), some (.ref r)] rfl plX11 (Nat.le_of_ble_eq_true rfl) ?_
  refine r_aload_n 1 dX11_init_0 rfl rfl lo0 ?_
  refine r_objInit 4 dX11_init_1 rfl q651 q89 q90 (by decide) (by decide) ?_
  refine r_aload_n 5 dX11_init_4 rfl rfl lo0 ?_
  refine r_aload_n 6 dX11_init_5 rfl rfl lo1 ?_
  refine r_putF 9 dX11_init_6 rfl g_X11_7_6 cw_6 fw_6_0 fo_6_0 rfl hA hba so0 (Nat.le_of_ble_eq_true rfl) rfl rfl ?_
  exact r_vret dX11_init_9 rfl (Nat.le_refl _) (Nat.le_refl _) ⟨rfl, rfl⟩

set_option maxHeartbeats 4000000 in
theorem ev_X0_sheet {w : WE} {A : Hp} {x : XT} {S : ST} {kx sx nx : Int32} (hx : XS w A x S) (h22 : mb w + 22 < A.2) (hT : TR w) : EvY w mX0_sheet (some [(43, 62, 63, 269)]) 9 4 61 [.ref (wb w), .int kx, .int sx, .int nx] A (fun r A' => r = some (.int (sp_sheet S kx sx nx).1) ∧ ∃ x' : XT, XS w A' x' (sp_sheet S kx sx nx).2 ∧ Fx w A A') noT := by
  refine EvY.mk 1 [some (.ref (wb w)), some (.int kx), some (.int sx), some (.int nx), none] rfl plX0 (Nat.le_of_ble_eq_true rfl) ?_
  have hm : mb w = wb w + 21 := rfl
  refine r_iload_n 1 dX0_sheet_0 rfl rfl lo1 ?_
  refine r_cS1 4 dX0_sheet_1 rfl sS_X0_256 (by rfl) ev_X0_noSheet ?_
  refine r_if_eqB 13 7 dX0_sheet_4 rfl rfl (fun hc => ?_) (fun hc => ?_)
  rotate_left
  · have e : sp_sheet S kx sx nx = (-1, sF S (nI 0)) := by
      unfold sp_sheet
      rw [if_pos (by rw [nb_f hc]; decide)]
    refine r_aload_n 8 dX0_sheet_7 rfl rfl lo0 ?_
    refine r_iconst 9 dX0_sheet_8 rfl ic_m1 ?_
    refine rx_V1x 12 dX0_sheet_9 rfl sV_X0_259_0 hx.t (by rfl) (ev_X0_refused hx) (fun A9 hP => ?_)
    obtain ⟨x9, hx9, hF9⟩ := hP
    refine r_ok (r_iret dX0_sheet_12 rfl (by decide) (by decide) ?_)
    rw [e]
    exact ⟨rfl, x9, hx9, hF9⟩
  have hb : btw kx.toInt 0 3 = true := nb_t hc
  have hnb : ¬ ¬ btw kx.toInt 0 3 = true := fun h => h hb
  have hbad : (¬ btw sx.toInt 0 2 = true ∨ 60 < nx.toInt) → Rn w mX0_sheet (rmX 9 4 61) (ZY w (fun r A' => r = some (.int (sp_sheet S kx sx nx).1) ∧ ∃ x' : XT, XS w A' x' (sp_sheet S kx sx nx).2 ∧ Fx w A A') noT 4 61) 0 0 A 31 [some (.ref (wb w)), some (.int kx), some (.int sx), some (.int nx), none] [] := by
    intro h
    have e : sp_sheet S kx sx nx = (-2, sF S (nI 0)) := by
      unfold sp_sheet
      rw [if_neg hnb, if_pos h]
    refine r_aload_n 32 dX0_sheet_31 rfl rfl lo0 ?_
    refine r_bipush 34 dX0_sheet_32 rfl bi_m2 ?_
    refine rx_V1x 37 dX0_sheet_34 rfl sV_X0_259_0 hx.t (by rfl) (ev_X0_refused hx) (fun A9 hP => ?_)
    obtain ⟨x9, hx9, hF9⟩ := hP
    refine r_ok (r_iret dX0_sheet_37 rfl (by decide) (by decide) ?_)
    rw [e]
    exact ⟨rfl, x9, hx9, hF9⟩
  refine r_iload_n 14 dX0_sheet_13 rfl rfl lo2 ?_
  refine r_i2l 15 dX0_sheet_14 rfl rfl ?_
  refine r_lconst 16 dX0_sheet_15 rfl lc_0 ?_
  refine r_ldc2 19 dX0_sheet_16 rfl q255 ?_
  refine r_cS3 22 dX0_sheet_19 rfl sS_X0_11 (by rfl) (ev_X0_in sx.toInt 0 2 (Int32.toInt_toInt64 _) (by decide) (by decide)) ?_
  refine r_if_eqB 31 25 dX0_sheet_22 rfl rfl (fun hc2 => hbad (Or.inl (by rw [hc2]; decide))) (fun hb2 => ?_)
  refine r_iload_n 26 dX0_sheet_25 rfl rfl lo3 ?_
  refine r_bipush 28 dX0_sheet_26 rfl bi_60 ?_
  refine r_icmp_le 38 31 dX0_sheet_28 rfl rfl (fun hle => ?_) (fun hle => hbad (Or.inr ?_))
  rotate_left
  · simp only [i_le, nI_om] at hle
    omega
  have h60 : nx.toInt ≤ 60 := by
    simp only [i_le, nI_om] at hle
    omega
  have hnb2 : ¬ (¬ btw sx.toInt 0 2 = true ∨ 60 < nx.toInt) := fun h => h.elim (fun z => z hb2) (fun z => by omega)
  obtain ⟨kk, hk4, rfl⟩ := sheet_ok hb
  obtain ⟨l, hl0, hl2, rfl⟩ := btw_nat hb2 (by decide) (by decide)
  have hl : l = 0 ∨ l = 1 ∨ l = 2 := by omega
  refine r_aload_n 39 dX0_sheet_38 rfl rfl lo0 ?_
  refine r_iconst 40 dX0_sheet_39 rfl ic_0 ?_
  refine rx_fault 43 dX0_sheet_40 rfl hx Fx.rf g_X0_242_0 (fun A1 hx1 hF1 => ?_)
  refine r_aload_n 44 dX0_sheet_43 rfl rfl lo0 ?_
  refine r_get 47 dX0_sheet_44 rfl g_X0_57_0 hx1.t rfl ?_
  refine r_iload_n 48 dX0_sheet_47 rfl rfl lo1 ?_
  refine r_new 51 dX0_sheet_48 rfl sN_X0_55 dv_6 (by decide) (by decide) (fun hlt hwb => ?_)
  have hA1 := hF1.1
  refine r_dup 52 dX0_sheet_51 rfl rfl ?_
  refine r_iload_n 53 dX0_sheet_52 rfl rfl lo2 ?_
  refine r_iload_n 54 dX0_sheet_53 rfl rfl lo3 ?_
  have hx2 := hx1.new hlt (.inr (6, [.null]))
  have hF2 : Fx w A (hp_new A1 (.inr (6, [.null]))) := hF1.tr (Fx.new (by omega))
  by_cases hneg : nx < 0
  · have hn0 : nx.toInt < 0 := by
      rw [i_lt] at hneg
      exact hneg
    have e : sp_sheet S (nI kk) (nI l) nx = (fl 4, sF S (nI 4)) := by
      unfold sp_sheet
      rw [if_neg hnb, if_neg hnb2, if_pos hn0]
    have hfin : Rt w mX0_sheet (rmX 9 4 61) (ZY w (fun r A' => r = some (.int (sp_sheet S (nI kk) (nI l) nx).1) ∧ ∃ x' : XT, XS w A' x' (sp_sheet S (nI kk) (nI l) nx).2 ∧ Fx w A A') noT 4 61) (0 + 1 + 3) (0 + 1 + 54) ((hp_new A1 (.inr (6, [.null]))).1, (hp_new A1 (.inr (6, [.null]))).2 + 3) 54 [some (.ref (wb w)), some (.int (nI kk)), some (.int (nI l)), some (.int nx), none] "java/lang/NegativeArraySizeException" := by
      refine rt_catch (pre := []) (x1 := 43) (x2 := 62) (hp := 63) (ct := 269) (post := []) (lw_all_tbl q548) rfl (by decide) q549 (fun s hK => hK.1 _ (q613)) (fun s hK y hy => by cases hy) (fun aa => ?_)
      refine r_astore 65 dX0_sheet_63 rfl rfl (by rfl) ?_
      refine r_aload_n 66 dX0_sheet_65 rfl rfl lo0 ?_
      refine r_iconst 67 dX0_sheet_66 rfl ic_4 ?_
      refine rx_V1x 70 dX0_sheet_67 rfl sV_X0_271_0 (hx2.gb 3).t (by rfl) (ev_X0_fails (v := 4) (by decide) (hx2.gb 3)) (fun A9 hP => ?_)
      obtain ⟨x9, hx9, hF9⟩ := hP
      refine r_ok (r_iret dX0_sheet_70 rfl (by decide) (by decide) ?_)
      rw [e]
      exact ⟨rfl, x9, hx9, (hF2.gb 3).tr hF9⟩
    rcases hl with rfl | rfl | rfl
    · refine r_yS (As := [.int (nI 0), .int nx]) rfl 57 dX0_sheet_54 rfl sS_X0_262 (by rfl) rfl (ev_X0_rowOfX0 hneg hT) (fun _ _ h => h.elim) (fun X A' h => ?_)
      obtain ⟨rfl, rfl⟩ := h
      exact hfin
    · refine r_yS (As := [.int (nI 1), .int nx]) rfl 57 dX0_sheet_54 rfl sS_X0_262 (by rfl) rfl (ev_X0_rowOfX1 hneg hT) (fun _ _ h => h.elim) (fun X A' h => ?_)
      obtain ⟨rfl, rfl⟩ := h
      exact hfin
    · refine r_yS (As := [.int (nI 2), .int nx]) rfl 57 dX0_sheet_54 rfl sS_X0_262 (by rfl) rfl (ev_X0_rowOfX2 hneg hT) (fun _ _ h => h.elim) (fun X A' h => ?_)
      obtain ⟨rfl, rfl⟩ := h
      exact hfin
  · have hn0 : ¬ nx.toInt < 0 := fun h => hneg (by rw [i_lt]; exact h)
    obtain ⟨N, hN, rfl⟩ : ∃ N : Nat, N ≤ 60 ∧ nx = nI N := ⟨nx.toInt.toNat, by omega, i_of (by omega) (by omega)⟩
    have e : sp_sheet S (nI kk) (nI l) (nI N) = (nI 1, sF (sH S kk (some (l, N, fun _ => 0))) (nI 0)) := by
      unfold sp_sheet
      rw [if_neg hnb, if_neg hnb2, if_neg hn0, nI_nat (j := kk) (by omega), nI_nat (j := l) (by omega), nI_nat (j := N) (by omega)]
    have hfin : Rn w mX0_sheet (rmX 9 4 61) (ZY w (fun r A' => r = some (.int (sp_sheet S (nI kk) (nI l) (nI N)).1) ∧ ∃ x' : XT, XS w A' x' (sp_sheet S (nI kk) (nI l) (nI N)).2 ∧ Fx w A A') noT 4 61) (0 + 1 + 3) (0 + 1 + 60) (hp_new (hp_new A1 (.inr (6, [.null]))) (eI w (ln l) N (fun _ => 0))) 57 [some (.ref (wb w)), some (.int (nI kk)), some (.int (nI l)), some (.int (nI N)), none] [.ref (A1.2 + 1), .ref A1.2, .ref A1.2, .int (nI kk), .ref (wb w + 20)] := by
      have hlt2 : ∀ (q : Nat) (e : va_E), (hp_new A1 (.inr (6, [.null]))).1 q = some e → q < A1.2 + 1 := fun q en hq => by
        by_cases e1 : q = A1.2
        · omega
        · rw [hp_new_n e1] at hq
          have := hlt q en hq
          omega
      have g1 : (hp_new (hp_new A1 (.inr (6, [.null]))) (eI w (ln l) N (fun _ => 0))).1 A1.2 = some (.inr (6, [.null])) := (hp_new_n (show A1.2 ≠ A1.2 + 1 by omega)).trans hp_new_s
      have hx3 := hx2.new hlt2 (eI w (ln l) N (fun _ => 0))
      refine rx_I1v 60 dX0_sheet_57 rfl sI_X0_266 (by rfl) (ev_X11_init g1 hwb) (fun A4 hP => ?_)
      subst hP
      have hx4 : XS w (hp_up (hp_new (hp_new A1 (.inr (6, [.null]))) (eI w (ln l) N (fun _ => 0))) A1.2 (.inr (6, [.ref (A1.2 + 1)]))) _ _ := hx1.keep (fun q _ y hy => by
        have := hlt q y hy
        rw [hp_up_n (by omega), hp_new_n (show q ≠ A1.2 + 1 by omega), hp_new_n (by omega)]
        exact hy)
      have g2 : (hp_up (hp_new (hp_new A1 (.inr (6, [.null]))) (eI w (ln l) N (fun _ => 0))) A1.2 (.inr (6, [.ref (A1.2 + 1)]))).1 (A1.2 + 1) = some (eI w (ln l) N (fun _ => 0)) := (hp_up_n (show A1.2 + 1 ≠ A1.2 by omega)).trans hp_new_s
      refine r_aastO (ci := 6) 61 dX0_sheet_60 rfl rfl ⟨RX11, TX11, 1, rfl, Or.inl rfl⟩ hx4.sh.1 hp_up_s (by omega) kk rfl hk4 (by decide) ?_
      refine r_iconst 62 dX0_sheet_61 rfl ic_1 ?_
      refine r_ok (r_iret dX0_sheet_62 rfl (by decide) (by decide) ?_)
      rw [e]
      refine ⟨rfl, _, hx4.sh20 (op := some (A1.2, A1.2 + 1)) (os := some (l, N, fun _ => 0)) hk4 (Or.inr ⟨(l, N, fun _ => 0), (A1.2, A1.2 + 1), (fun _ => 0), rfl, rfl, by dsimp only; omega, hN, by dsimp only; omega, by dsimp only; omega, hp_up_s, g2, fun _ _ => rfl⟩) (fun j p p' hj hjk h1 h2 => ?_), ?_⟩
      · cases h2
        obtain ⟨q', hq'⟩ : ∃ q', (sF S (nI 0)).2.2.2.2.2 j = some q' := by
          rcases hx1.sh.2.1 j hj with ⟨-, u2⟩ | ⟨q', p9, f9, u1, -⟩
          · rw [u2] at h1
            cases h1
          · exact ⟨q', u1⟩
        obtain ⟨p9, f9, v1, v2, v3, v4, v5, v6, v7, v8⟩ := hx1.some hj hq'
        have h1' : some p9 = some p' := v1.symm.trans h1
        cases h1'
        have := hlt _ _ v7
        show p'.2 ≠ A1.2 + 1
        omega
      · refine (hF2.tr (Fx.new (by show mb w + 22 < A1.2 + 1; omega))).tr ((Fx.up (Or.inr (by omega))).tr (Fx.up (Or.inl (by omega))))
    rcases hl with rfl | rfl | rfl
    · refine r_yS (As := [.int (nI 0), .int (nI N)]) rfl 57 dX0_sheet_54 rfl sS_X0_262 (by rfl) rfl (ev_X0_rowOf0 hN) (fun r A' hQ => ?_) (fun _ _ h => h.elim)
      obtain ⟨rfl, rfl⟩ := hQ
      exact hfin
    · refine r_yS (As := [.int (nI 1), .int (nI N)]) rfl 57 dX0_sheet_54 rfl sS_X0_262 (by rfl) rfl (ev_X0_rowOf1 hN) (fun r A' hQ => ?_) (fun _ _ h => h.elim)
      obtain ⟨rfl, rfl⟩ := hQ
      exact hfin
    · refine r_yS (As := [.int (nI 2), .int (nI N)]) rfl 57 dX0_sheet_54 rfl sS_X0_262 (by rfl) rfl (ev_X0_rowOf2 hN) (fun r A' hQ => ?_) (fun _ _ h => h.elim)
      obtain ⟨rfl, rfl⟩ := hQ
      exact hfin
