/-! THE CLASS: as -/
set_option maxRecDepth 100000
theorem EvY.mono {w : WE} {M : MI} {hh : HT} {d mc ms : Nat} {As : List Value} {A : Hp} {Qo Qo2 : Option Value → Hp → Prop} {Qt Qt2 : String → Hp → Prop} (h : EvY w M hh d mc ms As A Qo Qt) (h1 : ∀ v A', Qo v A' → Qo2 v A') (h2 : ∀ X A', Qt X A' → Qt2 X A') : EvY w M hh d mc ms As A Qo2 Qt2 := by
  intro p e ha hc hk s m args below hf happ hP hK
  obtain ⟨n, o, hw, hr, he, hq, hL⟩ := h p e ha hc hk s m args below hf happ hP hK
  refine ⟨n, o, hw, hr, he, ?_, hL⟩
  rcases hq with ⟨v, A', q1, q2, q3⟩ | ⟨a, X, A', q1, q2, q3, q4⟩
  · exact Or.inl ⟨v, A', q1, q2, h1 _ _ q3⟩
  · exact Or.inr ⟨a, X, A', q1, q2, q3, h2 _ _ q4⟩
theorem sY_done13 : SiteY "ThirdEbb$Act" 19 12 ⟨"ThirdEbb$Act", "done", "()I"⟩ "ThirdEbb$Act" mX13_done none 0 := ⟨RX13, TX13, 4, rfl, q819, q821, q820, by decide, q945, q946, q82, lw_meth q947, by decide +kernel⟩
theorem sY_tried13 : SiteY "ThirdEbb" 350 12 ⟨"ThirdEbb$Taking", "tried", "()I"⟩ "ThirdEbb$Act" mX2_tried (some [(8, 12, 13, 23), (8, 12, 23, 29), (8, 12, 23, 31), (8, 12, 33, 33), (8, 12, 43, 35)]) 0 := ⟨RX13, TX13, 4, rfl, q1128, q1129, q795, by decide, q1130, q799, q55, lw_methW q800, by decide +kernel⟩
set_option maxHeartbeats 4000000 in
theorem ev_X0_as {w : WE} {A : Hp} {x : XT} {S : ST} {v sx : Int32} (hx : XS w A x S) (h22 : mb w + 22 < A.2) (hw : MRi w) (hT : TR w) : EvP w mX0_as 10 4 974 [.ref (wb w), .int v, .int sx] A (some (.int (sp_as S v sx).1)) (fun A' => ∃ x' : XT, XS w A' x' (sp_as S v sx).2 ∧ Fx w A A') := by
  refine Ev.mk 0 [some (.ref (wb w)), some (.int v), some (.int sx)] rfl plX0 (Nat.le_of_ble_eq_true rfl) ?_
  have hm : mb w = wb w + 21 := rfl
  have hl10 := hx.ok.2.2.2.1
  refine r_aload_n 1 dX0_as_0 rfl rfl lo0 ?_
  refine r_iload_n 2 dX0_as_1 rfl rfl lo1 ?_
  refine r_cV1 5 dX0_as_2 rfl sV_X0_158_0 hx.t (by rfl) (ev_X0_noRoad hx) ?_
  refine r_if_eqB 14 8 dX0_as_5 rfl (by decide) (fun hc5 => ?_) (fun hc5 => ?_)
  rotate_left
  · have e : sp_as S v sx = (-1, sF S (nI 0)) := by
      unfold sp_as
      rw [ix_no (l := S.2.2.1) (x := v) (by exact btw_f.mp (by simpa using hc5))]
    refine r_aload_n 9 dX0_as_8 rfl rfl lo0 ?_
    refine r_iconst 10 dX0_as_9 rfl ic_m1 ?_
    refine rx_V1x 13 dX0_as_10 rfl sV_X0_259_0 hx.t (by rfl) (ev_X0_refused hx) (fun A9 hP => ?_)
    obtain ⟨x9, hx9, hF9⟩ := hP
    refine r_iret dX0_as_13 rfl (by decide) (by decide) ?_
    rw [e]
    exact ⟨rfl, x9, hx9, hF9⟩
  obtain ⟨j, q, hj, rfl, hq, hix⟩ := ix_ok (l := S.2.2.1) (x := v) (by have := btw_t.mp (by simpa using hc5); omega)
  have hk := (hx.rok hq).1
  refine r_iload_n 15 dX0_as_14 rfl rfl lo2 ?_
  refine r_i2l 16 dX0_as_15 rfl rfl ?_
  refine r_lconst 17 dX0_as_16 rfl lc_0 ?_
  refine r_ldc2 20 dX0_as_17 rfl q255 ?_
  refine r_cS3 23 dX0_as_20 rfl sS_X0_11 (by rfl) (ev_X0_in sx.toInt 0 2 (Int32.toInt_toInt64 _) (by decide) (by decide)) ?_
  refine r_if_eqB 54 26 dX0_as_23 rfl (by decide) (fun hc2 => ?_) (fun hb2 => ?_)
  · have e : sp_as S (nI j) sx = (-2, sF S (nI 0)) := by
      unfold sp_as
      rw [hix]
      exact if_neg (by rw [hc2]; decide)
    refine r_aload_n 55 dX0_as_54 rfl rfl lo0 ?_
    refine r_bipush 57 dX0_as_55 rfl bi_m2 ?_
    refine rx_V1x 60 dX0_as_57 rfl sV_X0_259_0 hx.t (by rfl) (ev_X0_refused hx) (fun A9 hP => ?_)
    obtain ⟨x9, hx9, hF9⟩ := hP
    refine r_iret dX0_as_60 rfl (by decide) (by decide) ?_
    rw [e]
    exact ⟨rfl, x9, hx9, hF9⟩
  obtain ⟨l, hl0, hl2, rfl⟩ := btw_nat hb2 (by decide) (by decide)
  have hl : l = 0 ∨ l = 1 ∨ l = 2 := by omega
  have hql : q.1 = 0 ∨ q.1 = 1 ∨ q.1 = 2 := by omega
  have eY : l ≤ q.1 → sp_as S (nI j) (nI l) = (nI 1, sF S (nI 0)) := fun h => by
    unfold sp_as
    rw [hix]
    dsimp only
    rw [if_pos hb2, if_pos (by rw [nI_toInt (by omega)]; omega)]
  have eN : ¬ l ≤ q.1 → sp_as S (nI j) (nI l) = (fl 2, sF S (nI 2)) := fun h => by
    unfold sp_as
    rw [hix]
    dsimp only
    rw [if_pos hb2, if_neg (by rw [nI_toInt (by omega)]; omega)]
  refine r_new 29 dX0_as_26 rfl sN_X0_345 dv_12 (by decide) (by decide) (fun hlt hwb => ?_)
  have hx1 := hx.new hlt (.inr (12, [.null, .null, .int 0, .null]))
  have hF1 : Fx w A (hp_new A (.inr (12, [.null, .null, .int 0, .null]))) := Fx.new h22
  obtain ⟨cr, pr, gr, r1, r2, r3, r4, r5⟩ := hx1.rl.use
  have hrd1 := hx1.rd j q hq
  refine r_dup 30 dX0_as_29 rfl rfl ?_
  refine r_aload_n 31 dX0_as_30 rfl rfl lo0 ?_
  refine r_aload_n 32 dX0_as_31 rfl rfl lo0 ?_
  refine r_get 35 dX0_as_32 rfl g_X0_28_0 hx1.t lo3 ?_
  refine r_iload_n 36 dX0_as_35 rfl rfl lo1 ?_
  refine r_cF1 41 dX0_as_36 rfl sF_X0_112_7 r1 (by rfl) (ev_J2_get r1 r2 hj r3 (by omega) (r5 j hj)) ?_
  refine r_castY 44 dX0_as_41 rfl (sC_X0_147 hk) hrd1.2 ?_
  refine r_iload_n 45 dX0_as_44 rfl rfl lo2 ?_
  refine rx_I3v 48 dX0_as_45 rfl sI_X0_347 (by rfl) (ev_X13_init hp_new_s hwb) (fun A2 hP => ?_)
  obtain ⟨p1, p2, p3⟩ := hP
  have hx2 : XS w A2 x S := hx.keep (fun z _ y hy => by
    have := hlt z y hy
    rw [p3 z (by omega), hp_new_n (by omega)]
    exact hy)
  have hF2 : Fx w A A2 := ⟨by rw [p2]; exact Nat.le_succ _, fun z h1 h2 => by rw [p3 z (by omega), hp_new_n (by omega)]⟩
  have hrd := hx2.rd j q hq
  have hsne : x.2.2.2.2.1 j ≠ wb w := by
    have := hrd.1
    omega
  refine r_yU (As := []) rfl 51 dX0_as_48 rfl sY_tried13 p1 (by rfl) rfl (ev_X2_tried (d' := 8) (mc' := 3) (ms' := 970) (kf := 0) (res := sp_as S (nI j) (nI l)) hx2 (by omega) p1 g_X2_3_12 rfl sY_done13 (by decide) (by decide) (fun A3 x3 hx3 hF3 hle hA3 hk3 => ?_)) (fun r A' hQ => ?_) (fun _ _ h => h.elim)
  · have hs3 := (hk3 _ hsne).trans hrd.2
    rcases hl with rfl | rfl | rfl <;> rcases hql with hq0 | hq0 | hq0
    · refine (ev_X13_done00 hA3 hq0 hs3 (by omega)).mono (fun v A' h => ?_) (fun _ _ h => h.elim)
      obtain ⟨rfl, rfl⟩ := h
      rw [eY (by omega)]
      exact ⟨rfl, x3, hx3, Fx.rf⟩
    · refine (ev_X13_done01 hA3 hq0 hs3 (by omega)).mono (fun v A' h => ?_) (fun _ _ h => h.elim)
      obtain ⟨rfl, rfl⟩ := h
      rw [eY (by omega)]
      exact ⟨rfl, x3, hx3, Fx.rf⟩
    · refine (ev_X13_done02 hA3 hq0 hs3 (by omega)).mono (fun v A' h => ?_) (fun _ _ h => h.elim)
      obtain ⟨rfl, rfl⟩ := h
      rw [eY (by omega)]
      exact ⟨rfl, x3, hx3, Fx.rf⟩
    · refine (ev_X13_done10 hA3 hq0 hs3 hw hT).mono (fun _ _ h => h.elim) (fun X A' h => ?_)
      obtain ⟨rfl, rfl⟩ := h
      exact ⟨2, x3, Or.inr (Or.inl ⟨rfl, rfl⟩), hx3.gb 3, Fx.rf.gb 3, hA3, eN (by omega)⟩
    · refine (ev_X13_done11 hA3 hq0 hs3 (by omega)).mono (fun v A' h => ?_) (fun _ _ h => h.elim)
      obtain ⟨rfl, rfl⟩ := h
      rw [eY (by omega)]
      exact ⟨rfl, x3, hx3, Fx.rf⟩
    · refine (ev_X13_done12 hA3 hq0 hs3 (by omega)).mono (fun v A' h => ?_) (fun _ _ h => h.elim)
      obtain ⟨rfl, rfl⟩ := h
      rw [eY (by omega)]
      exact ⟨rfl, x3, hx3, Fx.rf⟩
    · refine (ev_X13_done20 hA3 hq0 hs3 hw hT).mono (fun _ _ h => h.elim) (fun X A' h => ?_)
      obtain ⟨rfl, rfl⟩ := h
      exact ⟨2, x3, Or.inr (Or.inl ⟨rfl, rfl⟩), hx3.gb 3, Fx.rf.gb 3, hA3, eN (by omega)⟩
    · refine (ev_X13_done21 hA3 hq0 hs3 hw hT).mono (fun _ _ h => h.elim) (fun X A' h => ?_)
      obtain ⟨rfl, rfl⟩ := h
      exact ⟨2, x3, Or.inr (Or.inl ⟨rfl, rfl⟩), hx3.gb 3, Fx.rf.gb 3, hA3, eN (by omega)⟩
    · refine (ev_X13_done22 hA3 hq0 hs3 (by omega)).mono (fun v A' h => ?_) (fun _ _ h => h.elim)
      obtain ⟨rfl, rfl⟩ := h
      rw [eY (by omega)]
      exact ⟨rfl, x3, hx3, Fx.rf⟩
  obtain ⟨rfl, x', hx', hF'⟩ := hQ
  refine r_goto 60 dX0_as_51 rfl ?_
  exact r_iret dX0_as_60 rfl (by decide) (by decide) ⟨rfl, x', hx', hF2.tr hF'⟩

