/-! THE CLASS: put -/
set_option maxRecDepth 100000
abbrev mX0_put : MI := (yX0_put, cX0_put, 5, some .int)
abbrev mX0_cell : MI := (yX0_cell, cX0_cell, 5, some .long)
abbrev mX0_sheet : MI := (yX0_sheet, cX0_sheet, 5, some .int)
abbrev mX2_tried : MI := (yX2_tried, cX2_tried, 2, some .int)
theorem rng_o {i : Int32} {N : Nat} (h : ¬ btw i.toInt 0 ((N : Int) - 1) = true) : i < 0 ∨ N ≤ i.toNatClampNeg := by
  by_cases h0 : i < 0
  · exact Or.inl h0
  · refine Or.inr ?_
    show N ≤ i.toInt.toNat
    rw [i_lt] at h0
    have e : (0 : Int32).toInt = 0 := rfl
    rw [e] at h0
    rw [btw_t] at h
    omega
theorem rng_i {i : Int32} {N : Nat} (hN : N ≤ 60) (h : btw i.toInt 0 ((N : Int) - 1) = true) : ∃ j, j < N ∧ i = nI j := by
  have := btw_t.mp h
  exact ⟨i.toInt.toNat, by omega, i_of (by omega) (by omega)⟩
set_option maxHeartbeats 4000000 in
theorem ev_X0_put {w : WE} {A : Hp} {x : XT} {S : ST} {kx i v : Int32} (hx : XS w A x S) (hT : TR w) : EvY w mX0_put (some [(18, 33, 34, 278), (18, 33, 42, 280)]) 9 3 222 [.ref (wb w), .int kx, .int i, .int v] A (fun r A' => r = some (.int (sp_put S kx i v).1) ∧ ∃ x' : XT, XS w A' x' (sp_put S kx i v).2 ∧ Fx w A A') noT := by
  refine EvY.mk 1 [some (.ref (wb w)), some (.int kx), some (.int i), some (.int v), none] rfl plX0 (Nat.le_of_ble_eq_true rfl) ?_
  refine r_iload_n 1 dX0_put_0 rfl rfl lo1 ?_
  refine r_cS1 4 dX0_put_1 rfl sS_X0_256 (by rfl) ev_X0_noSheet ?_
  refine r_if_eqB 13 7 dX0_put_4 rfl rfl (fun hc => ?_) (fun hc => ?_)
  rotate_left
  · refine r_aload_n 8 dX0_put_7 rfl rfl lo0 ?_
    refine r_iconst 9 dX0_put_8 rfl ic_m1 ?_
    refine rx_V1x 12 dX0_put_9 rfl sV_X0_259_0 hx.t (by rfl) (ev_X0_refused hx) (fun A9 hP => ?_)
    obtain ⟨x9, hx9, hF9⟩ := hP
    refine r_ok (r_iret dX0_put_12 rfl (by decide) (by decide) ?_)
    have e : sp_put S kx i v = (-1, sF S (nI 0)) := by
      unfold sp_put
      rw [if_pos (by rw [nb_f hc]; decide)]
    rw [e]
    exact ⟨rfl, x9, hx9, hF9⟩
  have hb : btw kx.toInt 0 3 = true := nb_t hc
  obtain ⟨kk, hk4, rfl⟩ := sheet_ok hb
  refine r_aload_n 14 dX0_put_13 rfl rfl lo0 ?_
  refine r_iconst 15 dX0_put_14 rfl ic_0 ?_
  refine rx_fault 18 dX0_put_15 rfl hx Fx.rf g_X0_242_0 (fun A1 hx1 hF1 => ?_)
  refine r_aload_n 19 dX0_put_18 rfl rfl lo0 ?_
  refine r_get 22 dX0_put_19 rfl g_X0_57_0 hx1.t rfl ?_
  refine r_iload_n 23 dX0_put_22 rfl rfl lo1 ?_
  cases hq : S.2.2.2.2.2 kk with
  | none =>
    have e : sp_put S (nI kk) i v = (fl 1, sF S (nI 1)) := by
      unfold sp_put
      rw [if_neg (fun h => h hb), nI_nat (j := kk) (by omega), hq]
    refine r_aaldN 24 dX0_put_23 rfl rfl rfl hx1.sh.1 kk rfl hk4 (by decide) (hx1.none hk4 hq) ?_
    refine r_getX dX0_put_24 q653 q654 hT rfl ?_
    refine rt_catch (pre := []) (x1 := 18) (x2 := 33) (hp := 34) (ct := 278) (post := [(18, 33, 42, 280)]) (lw_all_tbl q669) rfl (by decide) q670 (fun s hK => hK.1 _ (q692)) (fun s hK y hy => by cases hy) (fun aa => ?_)
    refine r_astore 36 dX0_put_34 rfl rfl (by rfl) ?_
    refine r_aload_n 37 dX0_put_36 rfl rfl lo0 ?_
    refine r_iconst 38 dX0_put_37 rfl ic_1 ?_
    refine rx_V1x 41 dX0_put_38 rfl sV_X0_271_0 (hx1.gb 1).t (by rfl) (ev_X0_fails (v := 1) (by decide) (hx1.gb 1)) (fun A9 hP => ?_)
    obtain ⟨x9, hx9, hF9⟩ := hP
    refine r_ok (r_iret dX0_put_41 rfl (by decide) (by decide) ?_)
    rw [e]
    exact ⟨rfl, x9, hx9, (hF1.gb 1).tr hF9⟩
  | some q =>
    obtain ⟨p, f, hp, h3, h4, h5, h6, h7, h8, h9⟩ := hx1.some hk4 hq
    refine r_aaldT 24 dX0_put_23 rfl rfl rfl hx1.sh.1 kk rfl hk4 (by decide) (v := p.1) (by show Option.map _ _ = _; rw [hp]; rfl) ?_
    refine r_get 27 dX0_put_24 rfl g_X0_252_6 h7 rfl ?_
    refine r_iload_n 28 dX0_put_27 rfl rfl lo2 ?_
    refine r_iload_n 29 dX0_put_28 rfl rfl lo3 ?_
    have hd2 : wb w ≤ p.2 := by
      have : mb w = wb w + 21 := rfl
      omega
    obtain ⟨l, N, gq⟩ := q
    dsimp only at h3 h4 h9
    by_cases hr : btw i.toInt 0 ((N : Int) - 1) = true
    · obtain ⟨j, hj, rfl⟩ := rng_i h4 hr
      have e : sp_put S (nI kk) (nI j) v = (nI 1, sF (sH S kk (some (l, N, upd gq j (nar l v)))) (nI 0)) := by
        unfold sp_put
        rw [if_neg (fun h => h hb), nI_nat (j := kk) (by omega), hq]
        show (if btw (nI j).toInt 0 ((N : Int) - 1) = true then (nI 1, sF (sH S kk (some (l, N, upd gq (nI j).toInt.toNat (nar l v)))) (nI 0)) else _) = _
        rw [if_pos hr, nI_nat (j := j) (by omega)]
      have hput := hx1.put (j := j) (y := nar l v) hk4 hq hp h8 h9 h6
      have hl : l = 0 ∨ l = 1 ∨ l = 2 := by omega
      have hfin : ∀ {k9 n9 : Nat}, k9 ≤ 3 → n9 ≤ 222 → Rn w mX0_put (rmX 9 3 222) (ZY w (fun r A' => r = some (.int (sp_put S (nI kk) (nI j) v).1) ∧ ∃ x' : XT, XS w A' x' (sp_put S (nI kk) (nI j) v).2 ∧ Fx w A A') noT 3 222) k9 n9 (hp_up A1 p.2 (eI w (ln l) N (upd f j (nar l v)))) 32 [some (.ref (wb w)), some (.int (nI kk)), some (.int (nI j)), some (.int v), none] [] := by
        intro k9 n9 hk9 hn9
        refine r_iconst 33 dX0_put_32 rfl ic_1 ?_
        refine r_ok (r_iret dX0_put_33 rfl hk9 hn9 ?_)
        rw [e]
        exact ⟨rfl, _, hput, hF1.tr (Fx.up (Or.inr h6))⟩
      rcases hl with rfl | rfl | rfl
      · refine r_yS (As := [.ref p.2, .int (nI j), .int v]) rfl 32 dX0_put_29 rfl sS_X0_274 (by rfl) rfl (ev_X0_setIn1 (N := N) h8 hd2 j rfl hj (by omega)) (fun r A' hQ => ?_) (fun _ _ h => h.elim)
        obtain ⟨rfl, rfl⟩ := hQ
        exact hfin (by decide) (by decide)
      · refine r_yS (As := [.ref p.2, .int (nI j), .int v]) rfl 32 dX0_put_29 rfl sS_X0_274 (by rfl) rfl (ev_X0_setIn2 (N := N) h8 hd2 j rfl hj (by omega)) (fun r A' hQ => ?_) (fun _ _ h => h.elim)
        obtain ⟨rfl, rfl⟩ := hQ
        exact hfin (by decide) (by decide)
      · refine r_yS (As := [.ref p.2, .int (nI j), .int v]) rfl 32 dX0_put_29 rfl sS_X0_274 (by rfl) rfl (ev_X0_setIn0 (N := N) h8 hd2 j rfl hj (by omega)) (fun r A' hQ => ?_) (fun _ _ h => h.elim)
        obtain ⟨rfl, rfl⟩ := hQ
        exact hfin (by decide) (by decide)
    · have e : sp_put S (nI kk) i v = (fl 3, sF S (nI 3)) := by
        unfold sp_put
        rw [if_neg (fun h => h hb), nI_nat (j := kk) (by omega), hq]
        exact if_neg hr
      have ho := rng_o hr
      have hl : l = 0 ∨ l = 1 ∨ l = 2 := by omega
      have hfin : Rt w mX0_put (rmX 9 3 222) (ZY w (fun r A' => r = some (.int (sp_put S (nI kk) i v).1) ∧ ∃ x' : XT, XS w A' x' (sp_put S (nI kk) i v).2 ∧ Fx w A A') noT 3 222) (0 + 3) (0 + 222) (A1.1, A1.2 + 3) 29 [some (.ref (wb w)), some (.int (nI kk)), some (.int i), some (.int v), none] "java/lang/ArrayIndexOutOfBoundsException" := by
        refine rt_catch (pre := [(18, 33, 34, 278)]) (x1 := 18) (x2 := 33) (hp := 42) (ct := 280) (post := []) (lw_all_tbl q669) rfl (by decide) q695 (fun s hK => hK.1 _ (q1496)) (fun s hK y hy => by
            simp only [List.mem_cons, List.not_mem_nil, or_false] at hy
            subst hy
            exact ⟨by decide, _, q670, (an1 (an2 (an1 (an2 (an2 (an2 (an1 (an1 (an1 (an2 hK.2.1))))))))))⟩) (fun aa => ?_)
        refine r_astore 44 dX0_put_42 rfl rfl (by rfl) ?_
        refine r_aload_n 45 dX0_put_44 rfl rfl lo0 ?_
        refine r_iconst 46 dX0_put_45 rfl ic_3 ?_
        refine rx_V1x 49 dX0_put_46 rfl sV_X0_271_0 (hx1.gb 3).t (by rfl) (ev_X0_fails (v := 3) (by decide) (hx1.gb 3)) (fun A9 hP => ?_)
        obtain ⟨x9, hx9, hF9⟩ := hP
        refine r_ok (r_iret dX0_put_49 rfl (by decide) (by decide) ?_)
        rw [e]
        exact ⟨rfl, x9, hx9, (hF1.gb 3).tr hF9⟩
      rcases hl with rfl | rfl | rfl
      · refine r_yS (As := [.ref p.2, .int i, .int v]) rfl 32 dX0_put_29 rfl sS_X0_274 (by rfl) rfl (ev_X0_setInO1 (N := N) h8 (by omega) ho hT) (fun _ _ h => h.elim) (fun X A' h => ?_)
        obtain ⟨rfl, rfl⟩ := h
        exact hfin
      · refine r_yS (As := [.ref p.2, .int i, .int v]) rfl 32 dX0_put_29 rfl sS_X0_274 (by rfl) rfl (ev_X0_setInO2 (N := N) h8 (by omega) ho hT) (fun _ _ h => h.elim) (fun X A' h => ?_)
        obtain ⟨rfl, rfl⟩ := h
        exact hfin
      · refine r_yS (As := [.ref p.2, .int i, .int v]) rfl 32 dX0_put_29 rfl sS_X0_274 (by rfl) rfl (ev_X0_setInO0 (N := N) h8 (by omega) ho hT) (fun _ _ h => h.elim) (fun X A' h => ?_)
        obtain ⟨rfl, rfl⟩ := h
        exact hfin
