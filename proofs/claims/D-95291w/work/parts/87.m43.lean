/-! THE CLASS: rowIn cell -/
set_option maxRecDepth 100000
set_option maxHeartbeats 4000000 in
theorem ev_X0_rowInN {w : WE} {A : Hp} {x : XT} {S : ST} {kk : Nat} (hx : XS w A x S) (hk : kk < 4) (hq : S.2.2.2.2.2 kk = Option.none) : EvV w mX0_rowIn 0 [.ref (wb w), .int (nI kk)] A .null := by
  refine Ev.mk 0 [some (.ref (wb w)), some (.int (nI kk))] rfl plX0 (Nat.le_of_ble_eq_true rfl) ?_
  refine r_aload_n 1 dX0_rowIn_0 rfl rfl lo0 ?_
  refine r_get 4 dX0_rowIn_1 rfl g_X0_57_0 hx.t rfl ?_
  refine r_iload_n 5 dX0_rowIn_4 rfl rfl lo1 ?_
  refine r_aaldN 6 dX0_rowIn_5 rfl rfl rfl hx.sh.1 kk rfl hk (by decide) (hx.none hk hq) ?_
  refine r_ifnonnullN 9 dX0_rowIn_6 rfl ?_
  refine r_null 10 dX0_rowIn_9 rfl ?_
  refine r_goto 22 dX0_rowIn_10 rfl ?_
  exact r_aret dX0_rowIn_22 rfl (Or.inl ⟨_, rfl⟩) (Or.inl rfl) (Nat.le_refl _) (Nat.le_refl _) ⟨rfl, rfl⟩

set_option maxHeartbeats 4000000 in
theorem ev_X0_rowIn {w : WE} {A : Hp} {x : XT} {S : ST} {kk : Nat} {p : Nat × Nat} (hx : XS w A x S) (hk : kk < 4) (hp : x.2.2.2.2.2 kk = Option.some p) (h7 : A.1 p.1 = some (.inr (6, [.ref p.2]))) : EvV w mX0_rowIn 0 [.ref (wb w), .int (nI kk)] A (.ref p.2) := by
  refine Ev.mk 0 [some (.ref (wb w)), some (.int (nI kk))] rfl plX0 (Nat.le_of_ble_eq_true rfl) ?_
  have hv : (fun k => (x.2.2.2.2.2 k).map (fun p => p.1)) kk = some p.1 := by
    show Option.map _ _ = _
    rw [hp]
    rfl
  refine r_aload_n 1 dX0_rowIn_0 rfl rfl lo0 ?_
  refine r_get 4 dX0_rowIn_1 rfl g_X0_57_0 hx.t rfl ?_
  refine r_iload_n 5 dX0_rowIn_4 rfl rfl lo1 ?_
  refine r_aaldT 6 dX0_rowIn_5 rfl rfl rfl hx.sh.1 kk rfl hk (by decide) (v := p.1) hv ?_
  refine r_ifnonnull 13 dX0_rowIn_6 rfl ?_
  refine r_aload_n 14 dX0_rowIn_13 rfl rfl lo0 ?_
  refine r_get 17 dX0_rowIn_14 rfl g_X0_57_0 hx.t rfl ?_
  refine r_iload_n 18 dX0_rowIn_17 rfl rfl lo1 ?_
  refine r_aaldT 19 dX0_rowIn_18 rfl rfl rfl hx.sh.1 kk rfl hk (by decide) (v := p.1) hv ?_
  refine r_get 22 dX0_rowIn_19 rfl g_X0_252_6 h7 rfl ?_
  exact r_aret dX0_rowIn_22 rfl (Or.inl ⟨_, rfl⟩) (Or.inr ⟨_, rfl⟩) (Nat.le_refl _) (Nat.le_refl _) ⟨rfl, rfl⟩

set_option maxHeartbeats 4000000 in
theorem ev_X0_cell {w : WE} {A : Hp} {x : XT} {S : ST} {kx i sx : Int32} (hx : XS w A x S) (hw : MRi w) (hT : TR w) : EvY w mX0_cell (some [(28, 39, 40, 278), (28, 39, 48, 293), (28, 39, 56, 280)]) 9 3 970 [.ref (wb w), .int kx, .int i, .int sx] A (fun r A' => r = some (.long (sp_cell S kx i sx).1) ∧ ∃ x' : XT, XS w A' x' (sp_cell S kx i sx).2 ∧ Fx w A A') noT := by
  refine EvY.mk 1 [some (.ref (wb w)), some (.int kx), some (.int i), some (.int sx), none] rfl plX0 (Nat.le_of_ble_eq_true rfl) ?_
  refine r_aload_n 1 dX0_cell_0 rfl rfl lo0 ?_
  refine r_iconst 2 dX0_cell_1 rfl ic_0 ?_
  refine rx_fault 5 dX0_cell_2 rfl hx Fx.rf g_X0_242_0 (fun A1 hx1 hF1 => ?_)
  have hbad : (¬ btw kx.toInt 0 3 = true ∨ ¬ btw sx.toInt 0 2 = true) → Rn w mX0_cell (rmX 9 3 970) (ZY w (fun r A' => r = some (.long (sp_cell S kx i sx).1) ∧ ∃ x' : XT, XS w A' x' (sp_cell S kx i sx).2 ∧ Fx w A A') noT 3 970) 0 0 A1 24 [some (.ref (wb w)), some (.int kx), some (.int i), some (.int sx), none] [] := by
    intro hb
    have e : sp_cell S kx i sx = (LOST, sF S (nI 0)) := by
      unfold sp_cell
      rw [if_pos hb]
    refine r_ldc2 27 dX0_cell_24 rfl q461 ?_
    refine r_ok (r_lret dX0_cell_27 rfl (by decide) (by decide) ?_)
    rw [e]
    exact ⟨rfl, _, hx1, hF1⟩
  refine r_iload_n 6 dX0_cell_5 rfl rfl lo1 ?_
  refine r_cS1 9 dX0_cell_6 rfl sS_X0_256 (by rfl) ev_X0_noSheet ?_
  refine r_if_neB 24 12 dX0_cell_9 rfl rfl (fun hc => hbad (Or.inl (by rw [nb_f hc]; decide))) (fun hc => ?_)
  have hb : btw kx.toInt 0 3 = true := nb_t hc
  refine r_iload_n 13 dX0_cell_12 rfl rfl lo3 ?_
  refine r_i2l 14 dX0_cell_13 rfl rfl ?_
  refine r_lconst 15 dX0_cell_14 rfl lc_0 ?_
  refine r_ldc2 18 dX0_cell_15 rfl q255 ?_
  refine r_cS3 21 dX0_cell_18 rfl sS_X0_11 (by rfl) (ev_X0_in sx.toInt 0 2 (Int32.toInt_toInt64 _) (by decide) (by decide)) ?_
  refine r_if_neB 28 24 dX0_cell_21 rfl rfl (fun hc2 => ?_) (fun hc2 => hbad (Or.inr (by rw [hc2]; decide)))
  have hb2 : btw sx.toInt 0 2 = true := hc2
  obtain ⟨kk, hk4, rfl⟩ := sheet_ok hb
  obtain ⟨l, hl0, hl2, rfl⟩ := btw_nat hb2 (by decide) (by decide)
  have hl : l = 0 ∨ l = 1 ∨ l = 2 := by omega
  have hnb : ¬ (¬ btw (nI kk).toInt 0 3 = true ∨ ¬ btw (nI l).toInt 0 2 = true) := fun h => h.elim (fun z => z hb) (fun z => z hb2)
  refine r_aload_n 29 dX0_cell_28 rfl rfl lo0 ?_
  refine r_iload_n 30 dX0_cell_29 rfl rfl lo1 ?_
  cases hq : S.2.2.2.2.2 kk with
  | none =>
    have e : sp_cell S (nI kk) i (nI l) = (LOST, sF S (nI 1)) := by
      unfold sp_cell
      rw [if_neg hnb, nI_nat (j := kk) (by omega), hq]
    refine r_cV1 33 dX0_cell_30 rfl sV_X0_282_0 hx1.t (by rfl) (ev_X0_rowInN hx1 hk4 hq) ?_
    refine r_iload_n 34 dX0_cell_33 rfl rfl lo3 ?_
    refine r_iload_n 35 dX0_cell_34 rfl rfl lo2 ?_
    have hfin : Rt w mX0_cell (rmX 9 3 970) (ZY w (fun r A' => r = some (.long (sp_cell S (nI kk) i (nI l)).1) ∧ ∃ x' : XT, XS w A' x' (sp_cell S (nI kk) i (nI l)).2 ∧ Fx w A A') noT 3 970) (0 + 1) (0 + 8) (A1.1, A1.2 + 1) 35 [some (.ref (wb w)), some (.int (nI kk)), some (.int i), some (.int (nI l)), none] "java/lang/NullPointerException" := by
      refine rt_catch (pre := []) (x1 := 28) (x2 := 39) (hp := 40) (ct := 278) (post := [(28, 39, 48, 293), (28, 39, 56, 280)]) (lw_all_tbl q723) rfl (by decide) q670 (fun s hK => hK.1 _ (q692)) (fun s hK y hy => by cases hy) (fun aa => ?_)
      refine r_astore 42 dX0_cell_40 rfl rfl (by rfl) ?_
      refine r_aload_n 43 dX0_cell_42 rfl rfl lo0 ?_
      refine r_iconst 44 dX0_cell_43 rfl ic_1 ?_
      refine rx_V1x 47 dX0_cell_44 rfl sV_X0_289_0 (hx1.gb 1).t (by rfl) (ev_X0_failsLong (v := 1) (hx1.gb 1)) (fun A9 hP => ?_)
      obtain ⟨x9, hx9, hF9⟩ := hP
      refine r_ok (r_lret dX0_cell_47 rfl (by decide) (by decide) ?_)
      rw [e]
      exact ⟨rfl, x9, hx9, (hF1.gb 1).tr hF9⟩
    rcases hl with rfl | rfl | rfl
    · refine r_yS (As := [.null, .int (nI 0), .int i]) rfl 38 dX0_cell_35 rfl sS_X0_285 (by rfl) rfl (ev_X0_cellOfN0 hT) (fun _ _ h => h.elim) (fun X A' h => ?_)
      obtain ⟨rfl, rfl⟩ := h
      exact hfin
    · refine r_yS (As := [.null, .int (nI 1), .int i]) rfl 38 dX0_cell_35 rfl sS_X0_285 (by rfl) rfl (ev_X0_cellOfN1 hT) (fun _ _ h => h.elim) (fun X A' h => ?_)
      obtain ⟨rfl, rfl⟩ := h
      exact hfin
    · refine r_yS (As := [.null, .int (nI 2), .int i]) rfl 38 dX0_cell_35 rfl sS_X0_285 (by rfl) rfl (ev_X0_cellOfN2 hT) (fun _ _ h => h.elim) (fun X A' h => ?_)
      obtain ⟨rfl, rfl⟩ := h
      exact hfin
  | some q =>
    obtain ⟨p, f, hp, h3, h4, h5, h6, h7, h8, h9⟩ := hx1.some hk4 hq
    refine r_cV1 33 dX0_cell_30 rfl sV_X0_282_0 hx1.t (by rfl) (ev_X0_rowIn hx1 hk4 hp h7) ?_
    refine r_iload_n 34 dX0_cell_33 rfl rfl lo3 ?_
    refine r_iload_n 35 dX0_cell_34 rfl rfl lo2 ?_
    obtain ⟨ql, N, gq⟩ := q
    dsimp only at h3 h4 h9
    have hql : ql = 0 ∨ ql = 1 ∨ ql = 2 := by omega
    have hfC : ql ≠ l → Rt w mX0_cell (rmX 9 3 970) (ZY w (fun r A' => r = some (.long (sp_cell S (nI kk) i (nI l)).1) ∧ ∃ x' : XT, XS w A' x' (sp_cell S (nI kk) i (nI l)).2 ∧ Fx w A A') noT 3 970) (0 + 3) (0 + 970) (A1.1, A1.2 + 3) 35 [some (.ref (wb w)), some (.int (nI kk)), some (.int i), some (.int (nI l)), none] "java/lang/ClassCastException" := by
      intro hne
      have e : sp_cell S (nI kk) i (nI l) = (LOST, sF S (nI 2)) := by
        unfold sp_cell
        rw [if_neg hnb, nI_nat (j := kk) (by omega), hq]
        exact if_pos (by rw [nI_toInt (by omega)]; dsimp only; omega)
      refine rt_catch (pre := [(28, 39, 40, 278)]) (x1 := 28) (x2 := 39) (hp := 48) (ct := 293) (post := [(28, 39, 56, 280)]) (lw_all_tbl q723) rfl (by decide) q724 (fun s hK => hK.1 _ (q736)) (fun s hK y hy => by
          simp only [List.mem_cons, List.not_mem_nil, or_false] at hy
          subst hy
          exact ⟨by decide, _, q670, (an1 (an2 (an2 (an1 (an2 (an2 (an1 (an1 (an1 (an2 hK.2.1))))))))))⟩) (fun aa => ?_)
      refine r_astore 50 dX0_cell_48 rfl rfl (by rfl) ?_
      refine r_aload_n 51 dX0_cell_50 rfl rfl lo0 ?_
      refine r_iconst 52 dX0_cell_51 rfl ic_2 ?_
      refine rx_V1x 55 dX0_cell_52 rfl sV_X0_289_0 (hx1.gb 3).t (by rfl) (ev_X0_failsLong (v := 2) (hx1.gb 3)) (fun A9 hP => ?_)
      obtain ⟨x9, hx9, hF9⟩ := hP
      refine r_ok (r_lret dX0_cell_55 rfl (by decide) (by decide) ?_)
      rw [e]
      exact ⟨rfl, x9, hx9, (hF1.gb 3).tr hF9⟩
    have hfO : ql = l → ¬ btw i.toInt 0 ((N : Int) - 1) = true → Rt w mX0_cell (rmX 9 3 970) (ZY w (fun r A' => r = some (.long (sp_cell S (nI kk) i (nI l)).1) ∧ ∃ x' : XT, XS w A' x' (sp_cell S (nI kk) i (nI l)).2 ∧ Fx w A A') noT 3 970) (0 + 3) (0 + 222) (A1.1, A1.2 + 3) 35 [some (.ref (wb w)), some (.int (nI kk)), some (.int i), some (.int (nI l)), none] "java/lang/ArrayIndexOutOfBoundsException" := by
      intro hne hr
      have e : sp_cell S (nI kk) i (nI l) = (LOST, sF S (nI 3)) := by
        unfold sp_cell
        rw [if_neg hnb, nI_nat (j := kk) (by omega), hq]
        show (if ((ql : Nat) : Int) ≠ (nI l).toInt then (LOST, sF S (nI 2)) else if btw i.toInt 0 ((N : Int) - 1) = true then ((gq i.toInt.toNat).toInt64, sF S (nI 0)) else (LOST, sF S (nI 3))) = _
        rw [if_neg (by rw [nI_toInt (by omega)]; omega), if_neg hr]
      refine rt_catch (pre := [(28, 39, 40, 278), (28, 39, 48, 293)]) (x1 := 28) (x2 := 39) (hp := 56) (ct := 280) (post := []) (lw_all_tbl q723) rfl (by decide) q695 (fun s hK => hK.1 _ (q1496)) (fun s hK y hy => by
          simp only [List.mem_cons, List.not_mem_nil, or_false] at hy
          rcases hy with rfl | rfl
          · exact ⟨by decide, _, q670, (an1 (an2 (an1 (an2 (an2 (an2 (an1 (an1 (an1 (an2 hK.2.1))))))))))⟩
          · exact ⟨by decide, _, q724, (an1 (an2 (an2 (an1 (an2 (an2 (an1 (an1 (an2 hK.2.1)))))))))⟩) (fun aa => ?_)
      refine r_astore 58 dX0_cell_56 rfl rfl (by rfl) ?_
      refine r_aload_n 59 dX0_cell_58 rfl rfl lo0 ?_
      refine r_iconst 60 dX0_cell_59 rfl ic_3 ?_
      refine rx_V1x 63 dX0_cell_60 rfl sV_X0_289_0 (hx1.gb 3).t (by rfl) (ev_X0_failsLong (v := 3) (hx1.gb 3)) (fun A9 hP => ?_)
      obtain ⟨x9, hx9, hF9⟩ := hP
      refine r_ok (r_lret dX0_cell_63 rfl (by decide) (by decide) ?_)
      rw [e]
      exact ⟨rfl, x9, hx9, (hF1.gb 3).tr hF9⟩
    have hfR : ql = l → btw i.toInt 0 ((N : Int) - 1) = true → ∀ j, i = nI j → j < N → Rn w mX0_cell (rmX 9 3 970) (ZY w (fun r A' => r = some (.long (sp_cell S (nI kk) i (nI l)).1) ∧ ∃ x' : XT, XS w A' x' (sp_cell S (nI kk) i (nI l)).2 ∧ Fx w A A') noT 3 970) (0 + 3) (0 + 222) A1 38 [some (.ref (wb w)), some (.int (nI kk)), some (.int i), some (.int (nI l)), none] [.int (f j)] := by
      intro hne hr j hij hj
      have e : sp_cell S (nI kk) i (nI l) = ((f j).toInt64, sF S (nI 0)) := by
        unfold sp_cell
        rw [if_neg hnb, nI_nat (j := kk) (by omega), hq]
        show (if ((ql : Nat) : Int) ≠ (nI l).toInt then (LOST, sF S (nI 2)) else if btw i.toInt 0 ((N : Int) - 1) = true then ((gq i.toInt.toNat).toInt64, sF S (nI 0)) else (LOST, sF S (nI 3))) = _
        rw [if_neg (by rw [nI_toInt (by omega)]; omega), if_pos hr, h9 j hj, hij, nI_nat (j := j) (by omega)]
      refine r_i2l 39 dX0_cell_38 rfl rfl ?_
      refine r_ok (r_lret dX0_cell_39 rfl (by decide) (by decide) ?_)
      rw [e]
      exact ⟨rfl, _, hx1, hF1⟩
    rcases hl with rfl | rfl | rfl <;> rcases hql with rfl | rfl | rfl
    · by_cases hr : btw i.toInt 0 ((N : Int) - 1) = true
      · obtain ⟨j, hj, hij⟩ := rng_i h4 hr
        refine r_yS (As := [.ref p.2, .int (nI 0), .int i]) rfl 38 dX0_cell_35 rfl sS_X0_285 (by rfl) rfl (ev_X0_cellOf0 (N := N) h8 j hij hj (by omega)) (fun r A' hQ => ?_) (fun _ _ h => h.elim)
        obtain ⟨rfl, rfl⟩ := hQ
        exact hfR rfl hr j hij hj
      · refine r_yS (As := [.ref p.2, .int (nI 0), .int i]) rfl 38 dX0_cell_35 rfl sS_X0_285 (by rfl) rfl (ev_X0_cellOfO0 (N := N) h8 (by omega) (rng_o hr) hT) (fun _ _ h => h.elim) (fun X A' h => ?_)
        obtain ⟨rfl, rfl⟩ := h
        exact hfO rfl hr
    · refine r_yS (As := [.ref p.2, .int (nI 0), .int i]) rfl 38 dX0_cell_35 rfl sS_X0_285 (by rfl) rfl (ev_X0_cellOfC02 (N := N) h8 hw hT) (fun _ _ h => h.elim) (fun X A' h => ?_)
      obtain ⟨rfl, rfl⟩ := h
      exact hfC (by decide)
    · refine r_yS (As := [.ref p.2, .int (nI 0), .int i]) rfl 38 dX0_cell_35 rfl sS_X0_285 (by rfl) rfl (ev_X0_cellOfC00 (N := N) h8 hw hT) (fun _ _ h => h.elim) (fun X A' h => ?_)
      obtain ⟨rfl, rfl⟩ := h
      exact hfC (by decide)
    · refine r_yS (As := [.ref p.2, .int (nI 1), .int i]) rfl 38 dX0_cell_35 rfl sS_X0_285 (by rfl) rfl (ev_X0_cellOfC11 (N := N) h8 hw hT) (fun _ _ h => h.elim) (fun X A' h => ?_)
      obtain ⟨rfl, rfl⟩ := h
      exact hfC (by decide)
    · by_cases hr : btw i.toInt 0 ((N : Int) - 1) = true
      · obtain ⟨j, hj, hij⟩ := rng_i h4 hr
        refine r_yS (As := [.ref p.2, .int (nI 1), .int i]) rfl 38 dX0_cell_35 rfl sS_X0_285 (by rfl) rfl (ev_X0_cellOf1 (N := N) h8 j hij hj (by omega)) (fun r A' hQ => ?_) (fun _ _ h => h.elim)
        obtain ⟨rfl, rfl⟩ := hQ
        exact hfR rfl hr j hij hj
      · refine r_yS (As := [.ref p.2, .int (nI 1), .int i]) rfl 38 dX0_cell_35 rfl sS_X0_285 (by rfl) rfl (ev_X0_cellOfO1 (N := N) h8 (by omega) (rng_o hr) hT) (fun _ _ h => h.elim) (fun X A' h => ?_)
        obtain ⟨rfl, rfl⟩ := h
        exact hfO rfl hr
    · refine r_yS (As := [.ref p.2, .int (nI 1), .int i]) rfl 38 dX0_cell_35 rfl sS_X0_285 (by rfl) rfl (ev_X0_cellOfC10 (N := N) h8 hw hT) (fun _ _ h => h.elim) (fun X A' h => ?_)
      obtain ⟨rfl, rfl⟩ := h
      exact hfC (by decide)
    · refine r_yS (As := [.ref p.2, .int (nI 2), .int i]) rfl 38 dX0_cell_35 rfl sS_X0_285 (by rfl) rfl (ev_X0_cellOfC21 (N := N) h8 hw hT) (fun _ _ h => h.elim) (fun X A' h => ?_)
      obtain ⟨rfl, rfl⟩ := h
      exact hfC (by decide)
    · refine r_yS (As := [.ref p.2, .int (nI 2), .int i]) rfl 38 dX0_cell_35 rfl sS_X0_285 (by rfl) rfl (ev_X0_cellOfC22 (N := N) h8 hw hT) (fun _ _ h => h.elim) (fun X A' h => ?_)
      obtain ⟨rfl, rfl⟩ := h
      exact hfC (by decide)
    · by_cases hr : btw i.toInt 0 ((N : Int) - 1) = true
      · obtain ⟨j, hj, hij⟩ := rng_i h4 hr
        refine r_yS (As := [.ref p.2, .int (nI 2), .int i]) rfl 38 dX0_cell_35 rfl sS_X0_285 (by rfl) rfl (ev_X0_cellOf2 (N := N) h8 j hij hj (by omega)) (fun r A' hQ => ?_) (fun _ _ h => h.elim)
        obtain ⟨rfl, rfl⟩ := hQ
        exact hfR rfl hr j hij hj
      · refine r_yS (As := [.ref p.2, .int (nI 2), .int i]) rfl 38 dX0_cell_35 rfl sS_X0_285 (by rfl) rfl (ev_X0_cellOfO2 (N := N) h8 (by omega) (rng_o hr) hT) (fun _ _ h => h.elim) (fun X A' h => ?_)
        obtain ⟨rfl, rfl⟩ := h
        exact hfO rfl hr
