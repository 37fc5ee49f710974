/-! THE CLASS: sea, table, book -/
set_option maxRecDepth 100000
theorem sY_tried8 : SiteY "ThirdEbb" 315 8 ⟨"ThirdEbb$Looking", "tried", "()I"⟩ "ThirdEbb$Act" mX2_tried (some [(8, 12, 13, 23), (8, 12, 23, 29), (8, 12, 23, 31), (8, 12, 33, 33), (8, 12, 43, 35)]) 0 := ⟨RX4, TX4, 7, rfl, q793, q794, q795, by decide, q798, q799, q55, lw_methW q800, by decide +kernel⟩
theorem sY_done8 : SiteY "ThirdEbb$Act" 19 8 ⟨"ThirdEbb$Act", "done", "()I"⟩ "ThirdEbb$Act" mX3_done none 0 := ⟨RX4, TX4, 7, rfl, q819, q821, q820, by decide, q944, q823, q56, lw_meth q824, by decide +kernel⟩
theorem sY_look8 : SiteY "ThirdEbb$Looking" 36 8 ⟨"ThirdEbb$Looking", "look", "([I)I"⟩ "ThirdEbb$Looking" mX4_look none 1 := ⟨RX4, TX4, 7, rfl, q847, q849, q848, by decide, q863, q864, q57, lw_meth q865, by decide +kernel⟩
theorem sY_tried9 : SiteY "ThirdEbb" 315 9 ⟨"ThirdEbb$Looking", "tried", "()I"⟩ "ThirdEbb$Act" mX2_tried (some [(8, 12, 13, 23), (8, 12, 23, 29), (8, 12, 23, 31), (8, 12, 33, 33), (8, 12, 43, 35)]) 0 := ⟨RX9, TX9, 8, rfl, q793, q794, q795, by decide, q797, q799, q55, lw_methW q800, by decide +kernel⟩
theorem sY_done9 : SiteY "ThirdEbb$Act" 19 9 ⟨"ThirdEbb$Act", "done", "()I"⟩ "ThirdEbb$Act" mX3_done none 0 := ⟨RX9, TX9, 8, rfl, q819, q821, q820, by decide, q938, q823, q56, lw_meth q824, by decide +kernel⟩
theorem sY_look9 : SiteY "ThirdEbb$Looking" 36 9 ⟨"ThirdEbb$Looking", "look", "([I)I"⟩ "ThirdEbb$Looking" mX9_look none 1 := ⟨RX9, TX9, 8, rfl, q847, q849, q848, by decide, q856, q857, q78, lw_meth q858, by decide +kernel⟩
theorem sY_tried10 : SiteY "ThirdEbb" 315 10 ⟨"ThirdEbb$Looking", "tried", "()I"⟩ "ThirdEbb$Act" mX2_tried (some [(8, 12, 13, 23), (8, 12, 23, 29), (8, 12, 23, 31), (8, 12, 33, 33), (8, 12, 43, 35)]) 0 := ⟨RX10, TX10, 7, rfl, q793, q794, q795, by decide, q796, q799, q55, lw_methW q800, by decide +kernel⟩
theorem sY_done10 : SiteY "ThirdEbb$Act" 19 10 ⟨"ThirdEbb$Act", "done", "()I"⟩ "ThirdEbb$Act" mX3_done none 0 := ⟨RX10, TX10, 7, rfl, q819, q821, q820, by decide, q822, q823, q56, lw_meth q824, by decide +kernel⟩
theorem sY_look10 : SiteY "ThirdEbb$Looking" 36 10 ⟨"ThirdEbb$Looking", "look", "([I)I"⟩ "ThirdEbb$Looking" mX10_look none 1 := ⟨RX10, TX10, 7, rfl, q847, q849, q848, by decide, q850, q851, q79, lw_meth q852, by decide +kernel⟩
theorem sY_done11 : SiteY "ThirdEbb$Act" 19 11 ⟨"ThirdEbb$Act", "done", "()I"⟩ "ThirdEbb$Act" mX12_done none 0 := ⟨RX12, TX12, 7, rfl, q819, q821, q820, by decide, q939, q940, q81, lw_meth q941, by decide +kernel⟩
theorem sY_tried11 : SiteY "ThirdEbb" 336 11 ⟨"ThirdEbb$Copying", "tried", "()I"⟩ "ThirdEbb$Act" mX2_tried (some [(8, 12, 13, 23), (8, 12, 23, 29), (8, 12, 23, 31), (8, 12, 33, 33), (8, 12, 43, 35)]) 0 := ⟨RX12, TX12, 7, rfl, q1024, q1025, q795, by decide, q1026, q799, q55, lw_methW q800, by decide +kernel⟩
set_option maxHeartbeats 4000000 in
theorem ev_X3_done {w : WE} {A : Hp} {x : XT} {S : ST} {ci a kk l : Nat} {fs : List Value} {i n : Int32} {ML : MI} {f : Nat → (Nat → Int32) → Int32 × ST} (g1 : SiteG "ThirdEbb$Looking" 1 ci 4) (g13 : SiteG "ThirdEbb$Looking" 13 ci 0) (g17 : SiteG "ThirdEbb$Looking" 17 ci 1) (g20 : SiteG "ThirdEbb$Looking" 20 ci 2) (g23 : SiteG "ThirdEbb$Looking" 23 ci 3) (sL : SiteY "ThirdEbb$Looking" 36 ci ⟨"ThirdEbb$Looking", "look", "([I)I"⟩ "ThirdEbb$Looking" ML none 1) (hML : ML.2.2.1 ≤ 40) (hx : XS w A x (sF S (nI 0))) (h22 : mb w + 22 < A.2) (hw : MRi w) (hT : TR w) (hA : A.1 a = some (.inr (ci, .int (nI kk) :: .int (nI l) :: .int i :: .int n :: .ref (wb w) :: .ref (wb w) :: fs))) (hk : kk < 4) (hl : l ≤ 2) (hLook : ∀ (A2 : Hp) (x2 : XT) (b N : Nat) (c : Nat → Int32), XS w A2 x2 (sF S (nI 0)) → mb w + 22 < A2.2 → A2.1 a = some (.inr (ci, .int (nI kk) :: .int (nI l) :: .int i :: .int n :: .ref (wb w) :: .ref (wb w) :: fs)) → A2.1 b = some (eI w 0 N c) → N ≤ 60 → EvY w ML none 7 10 65 [.ref a, .ref b] A2 (fun v A' => v = some (.int (f N c).1) ∧ ∃ x' : XT, XS w A' x' (f N c).2 ∧ Fx w A2 A') noT) : EvY w mX3_done none 10 12 1100 [.ref a] A (fun v A' => v = some (.int (sp_look S (nI kk) (nI l) i n true f).1) ∧ ∃ x' : XT, XS w A' x' (sp_look S (nI kk) (nI l) i n true f).2 ∧ Fx w A A') (fun X A' => ∃ (g : Nat) (x' : XT), XC X g ∧ XS w A' x' (sF S (nI 0)) ∧ Fx w A A' ∧ A'.1 a = some (.inr (ci, .int (nI kk) :: .int (nI l) :: .int i :: .int n :: .ref (wb w) :: .ref (wb w) :: fs)) ∧ (sp_look S (nI kk) (nI l) i n true f) = (fl g, sF S (nI g))) := by
  refine EvY.mk 0 [some (.ref a)] rfl plX3 (Nat.le_of_ble_eq_true rfl) ?_
  refine r_fresh (fun hlt hwb => ?_)
  have hb2 : btw (nI l).toInt 0 2 = true := btw_t.mpr (by rw [nI_toInt (by omega)]; omega)
  refine r_aload_n 1 dX3_done_0 rfl rfl lo0 ?_
  refine r_aload_n 2 dX3_done_1 rfl rfl lo0 ?_
  refine r_get 5 dX3_done_2 rfl g1 hA rfl ?_
  refine r_aload_n 6 dX3_done_5 rfl rfl lo0 ?_
  refine r_get 9 dX3_done_6 rfl g13 hA rfl ?_
  cases hq : S.2.2.2.2.2 kk with
  | none =>
    have hag : ag (S.2.2.2.2.2 kk) (nI l) i n = 1 := by unfold ag; rw [hq]
    refine r_cNV1 12 dX3_done_9 rfl sNV_X3_26_0 hx.t (by rfl) (ev_X0_rowInN hx hk hq) ?_
    refine r_aload_n 13 dX3_done_12 rfl rfl lo0 ?_
    refine r_get 16 dX3_done_13 rfl g17 hA rfl ?_
    refine r_aload_n 17 dX3_done_16 rfl rfl lo0 ?_
    refine r_get 20 dX3_done_17 rfl g20 hA rfl ?_
    refine r_aload_n 21 dX3_done_20 rfl rfl lo0 ?_
    refine r_get 24 dX3_done_21 rfl g23 hA rfl ?_
    refine r_yNS (As := [.null, .int (nI l), .int i, .int n]) rfl 27 dX3_done_24 rfl sNS_X3_32 (by rfl) rfl (ev_X0_cellsOfN hl hT) (fun _ _ h => h.elim) (fun X A' h => ?_)
    obtain ⟨rfl, rfl⟩ := h
    exact rt_wide 12 1100 (by decide) (by decide) (rt_out (lw_all_tbl q824) ⟨1, x, Or.inl ⟨rfl, rfl⟩, hx.gb 1, Fx.rf.gb 1, hA, look_bad hk hb2 rfl (by decide) hag⟩)
  | some q =>
    obtain ⟨p, g, hp, hq1, hq2, hd1, hd2, hp1, hp2, hgq⟩ := hx.some hk hq
    refine r_cNV1 12 dX3_done_9 rfl sNV_X3_26_0 hx.t (by rfl) (ev_X0_rowIn hx hk hp hp1) ?_
    refine r_aload_n 13 dX3_done_12 rfl rfl lo0 ?_
    refine r_get 16 dX3_done_13 rfl g17 hA rfl ?_
    refine r_aload_n 17 dX3_done_16 rfl rfl lo0 ?_
    refine r_get 20 dX3_done_17 rfl g20 hA rfl ?_
    refine r_aload_n 21 dX3_done_20 rfl rfl lo0 ?_
    refine r_get 24 dX3_done_21 rfl g23 hA rfl ?_
    by_cases hql : q.1 = l
    · subst hql
      by_cases hn0 : n < 0
      · have hag : ag (S.2.2.2.2.2 kk) (nI q.1) i n = 4 := by
          unfold ag
          rw [hq]
          dsimp only
          rw [if_neg (fun z => z rfl), if_pos hn0]
        refine r_yNS (As := [.ref p.2, .int (nI q.1), .int i, .int n]) rfl 27 dX3_done_24 rfl sNS_X3_32 (by rfl) rfl (ev_X0_cellsOfS hl hp2 hn0 hT) (fun _ _ h => h.elim) (fun X A' h => ?_)
        obtain ⟨rfl, rfl⟩ := h
        exact rt_wide 12 1100 (by decide) (by decide) (rt_out (lw_all_tbl q824) ⟨4, x, Or.inr (Or.inr (Or.inr (Or.inl ⟨rfl, rfl⟩))), hx.gb 3, Fx.rf.gb 3, hA, look_bad hk hb2 rfl (by decide) hag⟩)
      · have z0 : (0 : Int32).toInt = 0 := by decide
        obtain ⟨n0, n1, rfl, n3⟩ := i_nat (x := n) (by have : ¬ n.toInt < (0 : Int32).toInt := fun z => hn0 (i_lt.mpr z); omega)
        by_cases hbd : i < 0 ∨ nI q.2.1 < i ∨ nI q.2.1 - i < nI n0
        · have hag : ag (S.2.2.2.2.2 kk) (nI q.1) i (nI n0) = 3 := by
            unfold ag
            rw [hq]
            dsimp only
            rw [if_neg (fun z => z rfl), if_neg hn0, if_pos hbd]
          refine r_yNS (As := [.ref p.2, .int (nI q.1), .int i, .int (nI n0)]) rfl 27 dX3_done_24 rfl sNS_X3_32 (by rfl) rfl (ev_X0_cellsOfI hl hp2 hq2 (by omega) hbd hT) (fun _ _ h => h.elim) (fun X A' h => ?_)
          obtain ⟨rfl, m, rfl⟩ := h
          have hxn := (hx.new hlt (eI w 1 m (fun _ => 0))).gb 1
          exact rt_wide 12 1100 (by decide) (by decide) (rt_out (lw_all_tbl q824) ⟨3, x, Or.inr (Or.inr (Or.inr (Or.inr (Or.inr ⟨rfl, rfl⟩)))), hxn, (Fx.new h22).gb 1, (hp_new_n (Nat.ne_of_lt (hlt _ _ hA))).trans hA, look_bad hk hb2 rfl (by decide) hag⟩)
        · have hag : ag (S.2.2.2.2.2 kk) (nI q.1) i (nI n0) = 0 := by
            unfold ag
            rw [hq]
            dsimp only
            rw [if_neg (fun z => z rfl), if_neg hn0, if_neg hbd]
          obtain ⟨q', i', n', e1, e2, e3, e4, e5, e6⟩ := ag_0 hag (fun z hz => by rw [hq] at hz; cases hz; exact hq2)
          rw [hq] at e1
          cases e1
          subst e3
          have en : n0 = n' := by
            have := congrArg Int32.toInt e4
            rw [nI_toInt (by omega), nI_toInt (by omega)] at this
            omega
          subst en
          refine rx_NS4x 27 dX3_done_24 rfl sNS_X3_32 (by rfl) (ev_X0_cellsOf (cc := fun t => q.2.2 (i' + t)) hl hp2 hq2 e5 (fun t ht => hgq (i' + t) (by omega))) (fun A2 hP => ?_)
          obtain ⟨b1, b2, b3⟩ := hP
          have hkp : ∀ z y, A.1 z = some y → A2.1 z = some y := fun z y hy => (b3 z (hlt _ _ hy)).trans hy
          have hx2 : XS w A2 x (sF S (nI 0)) := hx.keep (fun z _ y hy => hkp z y hy)
          have hF2 : Fx w A A2 := ⟨by omega, fun z z1 z2 => b3 z (by omega)⟩
          refine r_yU (As := [.ref (A.2 + 1)]) rfl 30 dX3_done_27 rfl sL (hkp _ _ hA) (cOk_of (by decide) (by show 8 + (ML.2.2.1 + 11) + (11000 + 64 * 7) ≤ 11000 + 64 * 10; omega) (by decide) (by decide) (by decide)) rfl (hLook A2 x (A.2 + 1) n0 _ hx2 (by omega) (hkp _ _ hA) b1 (by omega)) (fun v A' hQ => ?_) (fun _ _ h => h.elim)
          obtain ⟨rfl, x', hx', hF'⟩ := hQ
          refine r_ok (r_iret dX3_done_30 rfl (by decide) (by decide) ?_)
          rw [look_ok hk hb2 rfl hag hq (by omega) (by omega)]
          exact ⟨rfl, x', hx', hF2.tr hF'⟩
    · have hag : ag (S.2.2.2.2.2 kk) (nI l) i n = 2 := by
        unfold ag
        rw [hq]
        dsimp only
        rw [if_pos (fun z => hql (by have := congrArg Int32.toInt z; rw [nI_toInt (by omega), nI_toInt (by omega)] at this; omega))]
      refine r_yNS (As := [.ref p.2, .int (nI l), .int i, .int n]) rfl 27 dX3_done_24 rfl sNS_X3_32 (by rfl) rfl (ev_X0_cellsOfC hl hq1 hql hp2 hw hT) (fun _ _ h => h.elim) (fun X A' h => ?_)
      obtain ⟨rfl, rfl⟩ := h
      exact rt_wide 12 1100 (by decide) (by decide) (rt_out (lw_all_tbl q824) ⟨2, x, Or.inr (Or.inl ⟨rfl, rfl⟩), hx.gb 3, Fx.rf.gb 3, hA, look_bad hk hb2 rfl (by decide) hag⟩)

set_option maxHeartbeats 4000000 in
theorem ev_X0_looked {w : WE} {A : Hp} {x : XT} {S : ST} {ci a : Nat} {fs : List Value} {k s i n : Int32} {bb : Bool} {ML : MI} {f : Nat → (Nat → Int32) → Int32 × ST} (g1 : SiteG "ThirdEbb$Looking" 1 ci 4) (g13 : SiteG "ThirdEbb$Looking" 13 ci 0) (g17 : SiteG "ThirdEbb$Looking" 17 ci 1) (g20 : SiteG "ThirdEbb$Looking" 20 ci 2) (g23 : SiteG "ThirdEbb$Looking" 23 ci 3) (sL : SiteY "ThirdEbb$Looking" 36 ci ⟨"ThirdEbb$Looking", "look", "([I)I"⟩ "ThirdEbb$Looking" ML none 1) (hML : ML.2.2.1 ≤ 40) (g7 : SiteG "ThirdEbb" 307 ci 0) (g12 : SiteG "ThirdEbb" 312 ci 1) (gA : SiteG "ThirdEbb$Act" 3 ci 5) (sT : SiteY "ThirdEbb" 315 ci ⟨"ThirdEbb$Looking", "tried", "()I"⟩ "ThirdEbb$Act" mX2_tried (some [(8, 12, 13, 23), (8, 12, 23, 29), (8, 12, 23, 31), (8, 12, 33, 33), (8, 12, 43, 35)]) 0) (sD : SiteY "ThirdEbb$Act" 19 ci ⟨"ThirdEbb$Act", "done", "()I"⟩ "ThirdEbb$Act" mX3_done none 0) (hx : XS w A x S) (h22 : mb w + 22 < A.2) (hw : MRi w) (hT : TR w) (hA : A.1 a = some (.inr (ci, .int k :: .int s :: .int i :: .int n :: .ref (wb w) :: .ref (wb w) :: fs))) (ha : dyn w a) (hLook : bb = true → ∀ (A2 : Hp) (x2 : XT) (b N : Nat) (c : Nat → Int32), XS w A2 x2 (sF S (nI 0)) → mb w + 22 < A2.2 → A2.1 a = some (.inr (ci, .int k :: .int s :: .int i :: .int n :: .ref (wb w) :: .ref (wb w) :: fs)) → A2.1 b = some (eI w 0 N c) → N ≤ 60 → EvY w ML none 7 10 65 [.ref a, .ref b] A2 (fun v A' => v = some (.int (f N c).1) ∧ ∃ x' : XT, XS w A' x' (f N c).2 ∧ Fx w A2 A') noT) : EvP w mX0_looked 12 12 1100 [.ref (wb w), .ref a, .int (bI bb)] A (some (.int (sp_look S k s i n bb f).1)) (fun A' => ∃ x' : XT, XS w A' x' (sp_look S k s i n bb f).2 ∧ Fx w A A') := by
  refine Ev.mk 0 [some (.ref (wb w)), some (.ref a), some (.int (bI bb))] rfl plX0 (Nat.le_of_ble_eq_true rfl) ?_
  have hm : mb w = wb w + 21 := rfl
  refine r_aload_n 1 dX0_looked_0 rfl rfl lo1 ?_
  refine r_get 4 dX0_looked_1 rfl g7 hA rfl ?_
  refine r_cS1 7 dX0_looked_4 rfl sS_X0_256 (by rfl) ev_X0_noSheet ?_
  refine r_if_eqB 16 10 dX0_looked_7 rfl rfl (fun hc => ?_) (fun hc => ?_)
  rotate_left
  · skip
    refine r_aload_n 11 dX0_looked_10 rfl rfl lo0 ?_
    refine r_iconst 12 dX0_looked_11 rfl ic_m1 ?_
    refine rx_V1x 15 dX0_looked_12 rfl sV_X0_259_0 hx.t (by rfl) (ev_X0_refused hx) (fun A9 hP => ?_)
    obtain ⟨x9, hx9, hF9⟩ := hP
    refine r_iret dX0_looked_15 rfl (by decide) (by decide) ?_
    rw [look_no (nb_f hc)]
    exact ⟨rfl, x9, hx9, hF9⟩
  have hb : btw k.toInt 0 3 = true := nb_t hc
  have h42 : btw s.toInt 0 2 = false ∨ bb = false → Rn w mX0_looked (rmX 12 12 1100) (ZX w (fun v A' => v = some (.int (sp_look S k s i n bb f).1) ∧ (fun A' => ∃ x' : XT, XS w A' x' (sp_look S k s i n bb f).2 ∧ Fx w A A') A') 12 1100) 0 0 A 42 [some (.ref (wb w)), some (.ref a), some (.int (bI bb))] [] := by
    intro hbad
    refine r_aload_n 43 dX0_looked_42 rfl rfl lo0 ?_
    refine r_bipush 45 dX0_looked_43 rfl bi_m2 ?_
    refine rx_V1x 48 dX0_looked_45 rfl sV_X0_259_0 hx.t (by rfl) (ev_X0_refused hx) (fun A9 hP => ?_)
    obtain ⟨x9, hx9, hF9⟩ := hP
    refine r_iret dX0_looked_48 rfl (by decide) (by decide) ?_
    rw [look_out hb hbad]
    exact ⟨rfl, x9, hx9, hF9⟩
  refine r_aload_n 17 dX0_looked_16 rfl rfl lo1 ?_
  refine r_get 20 dX0_looked_17 rfl g12 hA rfl ?_
  refine r_i2l 21 dX0_looked_20 rfl rfl ?_
  refine r_lconst 22 dX0_looked_21 rfl lc_0 ?_
  refine r_ldc2 25 dX0_looked_22 rfl q255 ?_
  refine r_cS3 28 dX0_looked_25 rfl sS_X0_11 (by rfl) (ev_X0_in s.toInt 0 2 (Int32.toInt_toInt64 _) (by decide) (by decide)) ?_
  refine r_if_eqB 42 31 dX0_looked_28 rfl rfl (fun hc2 => h42 (Or.inl hc2)) (fun hb2 => ?_)
  refine r_iload_n 32 dX0_looked_31 rfl rfl lo2 ?_
  refine r_if_eqB 42 35 dX0_looked_32 rfl rfl (fun hc3 => h42 (Or.inr hc3)) (fun hb3 => ?_)
  subst hb3
  obtain ⟨kk, hk4, rfl⟩ := sheet_ok hb
  obtain ⟨l, hl0, hl2, rfl⟩ := btw_nat hb2 (by decide) (by decide)
  refine r_aload_n 36 dX0_looked_35 rfl rfl lo1 ?_
  refine r_yU (As := []) rfl 39 dX0_looked_36 rfl sT hA (by rfl) rfl (ev_X2_tried (d' := 10) (mc' := 12) (ms' := 1100) (kf := 5) (res := (sp_look S (nI kk) (nI l) i n true f)) hx (by omega) hA gA rfl sD (by decide) (by decide) (fun A3 x3 hx3 hF3 hle hA3 hk3 => ev_X3_done g1 g13 g17 g20 g23 sL hML hx3 (by omega) hw hT hA3 hk4 (by omega) (fun A2 x2 b N c y1 y2 y3 y4 y5 => hLook rfl A2 x2 b N c y1 y2 y3 y4 y5))) (fun r A' hQ => ?_) (fun _ _ h => h.elim)
  obtain ⟨rfl, x', hx', hF'⟩ := hQ
  refine r_goto 48 dX0_looked_39 rfl ?_
  exact r_iret dX0_looked_48 rfl (by decide) (by decide) ⟨rfl, x', hx', hF'⟩

/-- what is done with the cells -/
def fsea (S : ST) : Nat → (Nat → Int32) → Int32 × ST := fun n c => match rsea c n with
  | .inl x => (nI 0 - nI 100 - nI x, sF S (nI 0))
  | .inr (il, l) => (nI l.length, (il, l, [], S.2.2.2.1, nI 0, S.2.2.2.2.2))
def ftab (S : ST) (hour : Int32) : Nat → (Nat → Int32) → Int32 × ST := fun n c => if S.1 = 0 then (-3, sF S (nI 0)) else if 2000 < hour.toInt.toNat + n then (-2, sF S (nI 0)) else (fd (fun t => !decide (c t = nI (lvl S.2.1 (hour.toInt.toNat + t)))) n 0, sF S (nI 0))
def fboo (S : ST) : Nat → (Nat → Int32) → Int32 × ST := fun n c => if anyb (bad c) n 0 = true then (-2, sF S (nI 0)) else (bset (fun b => allb (fun t => remz (c t - c 0) (nI b)) (n - 1) 1) 29 2 (nI 0), sF S (nI 0))
theorem sea_l (S : ST) (k s i n : Int32) : sp_sea S k s i n = sp_look S k s i n true (fsea S) := rfl
theorem tab_l (S : ST) (h k s i n : Int32) : sp_table S h k s i n = sp_look S k s i n (btw h.toInt 0 1999) (ftab S h) := rfl
theorem boo_l (S : ST) (k s i n : Int32) : sp_book S k s i n = sp_look S k s i n true (fboo S) := rfl
set_option maxHeartbeats 4000000 in
theorem ev_X4_look {w : WE} {A : Hp} {x : XT} {S : ST} {a b N : Nat} {c : Nat → Int32} {f0 f1 f2 f3 f4 f5 : Value} (hx : XS w A x (sF S (nI 0))) (h22 : mb w + 22 < A.2) (hM : KM w) (hA : A.1 a = some (.inr (8, [f0, f1, f2, f3, f4, f5, .ref (wb w)]))) (hB : A.1 b = some (eI w 0 N c)) (hN : N ≤ 60) : EvY w mX4_look none 7 10 65 [.ref a, .ref b] A (fun v A' => v = some (.int (fsea S N c).1) ∧ ∃ x' : XT, XS w A' x' (fsea S N c).2 ∧ Fx w A A') noT := by
  refine EvY.mk 0 [some (.ref a), some (.ref b)] rfl plX4 (Nat.le_of_ble_eq_true rfl) ?_
  refine r_aload_n 1 dX4_look_0 rfl rfl lo0 ?_
  refine r_get 4 dX4_look_1 rfl g_X4_1_8 hA lo6 ?_
  refine r_aload_n 5 dX4_look_4 rfl rfl lo1 ?_
  refine r_callNV (As := [.ref b]) (st := []) rfl 8 dX4_look_5 rfl sNV_X4_13_0 hx.t (by rfl) rfl (ev_X0_newSea hx h22 hB hN hM) (fun v A' hQ => ?_)
  have hq : v = some (.int (fsea S N c).1) ∧ ∃ x' : XT, XS w A' x' (fsea S N c).2 ∧ Fx w A A' := by
    unfold nsQ at hQ
    unfold fsea
    cases hr : rsea c N with
    | inl e =>
      rw [hr] at hQ
      exact hQ
    | inr z =>
      rw [hr] at hQ
      obtain ⟨il, l⟩ := z
      exact hQ
  obtain ⟨rfl, hq⟩ := hq
  exact r_ok (r_iret dX4_look_8 rfl (by decide) (by decide) ⟨rfl, hq⟩)

set_option maxHeartbeats 4000000 in
theorem ev_X9_look {w : WE} {A : Hp} {x : XT} {S : ST} {a b N h : Nat} {c : Nat → Int32} {f0 f1 f2 f3 f4 f5 : Value} (hx : XS w A x (sF S (nI 0))) (hh : h ≤ 1999) (hA : A.1 a = some (.inr (9, [f0, f1, f2, f3, f4, f5, .int (nI h), .ref (wb w)]))) (hB : A.1 b = some (eI w 0 N c)) (hN : N ≤ 60) : EvY w mX9_look none 7 10 65 [.ref a, .ref b] A (fun v A' => v = some (.int (ftab S (nI h) N c).1) ∧ ∃ x' : XT, XS w A' x' (ftab S (nI h) N c).2 ∧ Fx w A A') noT := by
  refine EvY.mk 0 [some (.ref a), some (.ref b)] rfl plX9 (Nat.le_of_ble_eq_true rfl) ?_
  refine r_aload_n 1 dX9_look_0 rfl rfl lo0 ?_
  refine r_get 4 dX9_look_1 rfl g_X9_1_9 hA lo7 ?_
  refine r_aload_n 5 dX9_look_4 rfl rfl lo0 ?_
  refine r_get 8 dX9_look_5 rfl g_X9_13_9 hA lo6 ?_
  refine r_aload_n 9 dX9_look_8 rfl rfl lo1 ?_
  refine r_cNV2 12 dX9_look_9 rfl sNV_X9_17_0 hx.t (by rfl) (ev_X0_firstFalse hx hB hN hh) ?_
  refine r_ok (r_iret dX9_look_12 rfl (by decide) (by decide) ?_)
  have e : ftab S (nI h) N c = ((if S.1 = 0 then -3 else if 2000 < h + N then -2 else fd (fun t => !decide (c t = nI (lvl S.2.1 (h + t)))) N 0), sF S (nI 0)) := by
    unfold ftab
    rw [nI_nat (by omega)]
    split
    · rfl
    · split <;> rfl
  rw [e]
  exact ⟨rfl, x, hx, Fx.rf⟩

set_option maxHeartbeats 4000000 in
theorem ev_X10_look {w : WE} {A : Hp} {x : XT} {S : ST} {a b N : Nat} {c : Nat → Int32} (hx : XS w A x (sF S (nI 0))) (hB : A.1 b = some (eI w 0 N c)) (hN : N ≤ 60) : EvY w mX10_look none 7 10 65 [.ref a, .ref b] A (fun v A' => v = some (.int (fboo S N c).1) ∧ ∃ x' : XT, XS w A' x' (fboo S N c).2 ∧ Fx w A A') noT := by
  refine EvY.mk 0 [some (.ref a), some (.ref b)] rfl plX10 (Nat.le_of_ble_eq_true rfl) ?_
  refine r_aload_n 1 dX10_look_0 rfl rfl lo1 ?_
  refine r_cNS1 4 dX10_look_1 rfl sNS_X10_13 (by rfl) (ev_X0_monthsOf hB hN) ?_
  refine r_ok (r_iret dX10_look_4 rfl (by decide) (by decide) ?_)
  have e : fboo S N c = ((if anyb (bad c) N 0 = true then -2 else bset (fun b => allb (fun t => remz (c t - c 0) (nI b)) (N - 1) 1) 29 2 (nI 0)), sF S (nI 0)) := by
    unfold fboo
    split <;> rfl
  rw [e]
  exact ⟨rfl, x, hx, Fx.rf⟩

set_option maxHeartbeats 4000000 in
theorem ev_X0_sea {w : WE} {A : Hp} {x : XT} {S : ST} {k s i n : Int32} (hx : XS w A x S) (h22 : mb w + 22 < A.2) (hw : MRi w) (hT : TR w) (hM : KM w) : EvP w mX0_sea 13 13 1110 [.ref (wb w), .int k, .int s, .int i, .int n] A (some (.int (sp_sea S k s i n).1)) (fun A' => ∃ x' : XT, XS w A' x' (sp_sea S k s i n).2 ∧ Fx w A A') := by
  refine Ev.mk 0 [some (.ref (wb w)), some (.int k), some (.int s), some (.int i), some (.int n)] rfl plX0 (Nat.le_of_ble_eq_true rfl) ?_
  refine r_aload_n 1 dX0_sea_0 rfl rfl lo0 ?_
  refine r_new 4 dX0_sea_1 rfl sN_X0_318 dv_8 (by decide) (by decide) (fun hlt hwb => ?_)
  refine r_dup 5 dX0_sea_4 rfl rfl ?_
  refine r_aload_n 6 dX0_sea_5 rfl rfl lo0 ?_
  refine r_iload_n 7 dX0_sea_6 rfl rfl lo1 ?_
  refine r_iload_n 8 dX0_sea_7 rfl rfl lo2 ?_
  refine r_iload_n 9 dX0_sea_8 rfl rfl lo3 ?_
  refine r_iload 11 dX0_sea_9 rfl lo4 ?_
  refine rx_I5v 14 dX0_sea_11 rfl sI_X0_320 (by rfl) (ev_X4_init hp_new_s hwb) (fun A2 hP => ?_)
  obtain ⟨p1, p2, p3⟩ := hP
  have hx2 : XS w A2 x S := hx.keep (fun z _ y hy => by
    have := hlt z y hy
    rw [p3 z (by omega), hp_new_n (by omega)]
    exact hy)
  have hF2 : Fx w A A2 := ⟨by rw [p2]; exact Nat.le_succ _, fun z h1 h2 => by rw [p3 z (by omega), hp_new_n (by omega)]⟩
  refine r_iconst 15 dX0_sea_14 rfl ic_1 ?_
  rw [sea_l]
  refine rx_V2x (r := .int (sp_look S k s i n true (fsea S)).1) 18 dX0_sea_15 rfl sV_X0_323_0 hx2.t (by rfl) (ev_X0_looked (bb := true) (f := (fsea S)) g_X3_1_8 g_X3_13_8 g_X3_17_8 g_X3_20_8 g_X3_23_8 sY_look8 (by decide) g_X0_307_8 g_X0_312_8 g_X2_3_8 sY_tried8 sY_done8 hx2 (by rw [p2]; show mb w + 22 < A.2 + 1; omega) hw hT p1 h22 (fun hb A3 x3 b N c y1 y2 y3 y4 y5 => ev_X4_look y1 y2 hM y3 y4 y5)) (fun A4 hP => ?_)
  obtain ⟨x', hx', hF'⟩ := hP
  exact r_iret dX0_sea_18 rfl (by decide) (by decide) ⟨rfl, x', hx', hF2.tr hF'⟩

set_option maxHeartbeats 4000000 in
theorem ev_X0_table {w : WE} {A : Hp} {x : XT} {S : ST} {h k s i n : Int32} (hx : XS w A x S) (h22 : mb w + 22 < A.2) (hw : MRi w) (hT : TR w) : EvP w mX0_table 13 13 1110 [.ref (wb w), .int h, .int k, .int s, .int i, .int n] A (some (.int (sp_table S h k s i n).1)) (fun A' => ∃ x' : XT, XS w A' x' (sp_table S h k s i n).2 ∧ Fx w A A') := by
  refine Ev.mk 0 [some (.ref (wb w)), some (.int h), some (.int k), some (.int s), some (.int i), some (.int n)] rfl plX0 (Nat.le_of_ble_eq_true rfl) ?_
  refine r_aload_n 1 dX0_table_0 rfl rfl lo0 ?_
  refine r_new 4 dX0_table_1 rfl sN_X0_327 dv_9 (by decide) (by decide) (fun hlt hwb => ?_)
  refine r_dup 5 dX0_table_4 rfl rfl ?_
  refine r_aload_n 6 dX0_table_5 rfl rfl lo0 ?_
  refine r_iload_n 7 dX0_table_6 rfl rfl lo1 ?_
  refine r_iload_n 8 dX0_table_7 rfl rfl lo2 ?_
  refine r_iload_n 9 dX0_table_8 rfl rfl lo3 ?_
  refine r_iload 11 dX0_table_9 rfl lo4 ?_
  refine r_iload 13 dX0_table_11 rfl lo5 ?_
  refine rx_I6v 16 dX0_table_13 rfl sI_X0_329 (by rfl) (ev_X9_init hp_new_s hwb) (fun A2 hP => ?_)
  obtain ⟨p1, p2, p3⟩ := hP
  have hx2 : XS w A2 x S := hx.keep (fun z _ y hy => by
    have := hlt z y hy
    rw [p3 z (by omega), hp_new_n (by omega)]
    exact hy)
  have hF2 : Fx w A A2 := ⟨by rw [p2]; exact Nat.le_succ _, fun z h1 h2 => by rw [p3 z (by omega), hp_new_n (by omega)]⟩
  refine r_iload_n 17 dX0_table_16 rfl rfl lo1 ?_
  refine r_cS1 20 dX0_table_17 rfl sS_X0_125 (by rfl) ev_X0_isHour ?_
  rw [tab_l]
  refine rx_V2x (r := .int (sp_look S k s i n (btw h.toInt 0 1999) (ftab S h)).1) 23 dX0_table_20 rfl sV_X0_323_0 hx2.t (by rfl) (ev_X0_looked (bb := (btw h.toInt 0 1999)) (f := (ftab S h)) g_X3_1_9 g_X3_13_9 g_X3_17_9 g_X3_20_9 g_X3_23_9 sY_look9 (by decide) g_X0_307_9 g_X0_312_9 g_X2_3_9 sY_tried9 sY_done9 hx2 (by rw [p2]; show mb w + 22 < A.2 + 1; omega) hw hT p1 h22 (fun hb A3 x3 b N c y1 y2 y3 y4 y5 => by
      obtain ⟨z, hz, rfl⟩ := hr_ok hb
      exact ev_X9_look y1 (by omega) y3 y4 y5)) (fun A4 hP => ?_)
  obtain ⟨x', hx', hF'⟩ := hP
  exact r_iret dX0_table_23 rfl (by decide) (by decide) ⟨rfl, x', hx', hF2.tr hF'⟩

set_option maxHeartbeats 4000000 in
theorem ev_X0_book {w : WE} {A : Hp} {x : XT} {S : ST} {k s i n : Int32} (hx : XS w A x S) (h22 : mb w + 22 < A.2) (hw : MRi w) (hT : TR w) : EvP w mX0_book 13 13 1110 [.ref (wb w), .int k, .int s, .int i, .int n] A (some (.int (sp_book S k s i n).1)) (fun A' => ∃ x' : XT, XS w A' x' (sp_book S k s i n).2 ∧ Fx w A A') := by
  refine Ev.mk 0 [some (.ref (wb w)), some (.int k), some (.int s), some (.int i), some (.int n)] rfl plX0 (Nat.le_of_ble_eq_true rfl) ?_
  refine r_aload_n 1 dX0_book_0 rfl rfl lo0 ?_
  refine r_new 4 dX0_book_1 rfl sN_X0_330 dv_10 (by decide) (by decide) (fun hlt hwb => ?_)
  refine r_dup 5 dX0_book_4 rfl rfl ?_
  refine r_aload_n 6 dX0_book_5 rfl rfl lo0 ?_
  refine r_iload_n 7 dX0_book_6 rfl rfl lo1 ?_
  refine r_iload_n 8 dX0_book_7 rfl rfl lo2 ?_
  refine r_iload_n 9 dX0_book_8 rfl rfl lo3 ?_
  refine r_iload 11 dX0_book_9 rfl lo4 ?_
  refine rx_I5v 14 dX0_book_11 rfl sI_X0_332 (by rfl) (ev_X10_init hp_new_s hwb) (fun A2 hP => ?_)
  obtain ⟨p1, p2, p3⟩ := hP
  have hx2 : XS w A2 x S := hx.keep (fun z _ y hy => by
    have := hlt z y hy
    rw [p3 z (by omega), hp_new_n (by omega)]
    exact hy)
  have hF2 : Fx w A A2 := ⟨by rw [p2]; exact Nat.le_succ _, fun z h1 h2 => by rw [p3 z (by omega), hp_new_n (by omega)]⟩
  refine r_iconst 15 dX0_book_14 rfl ic_1 ?_
  rw [boo_l]
  refine rx_V2x (r := .int (sp_look S k s i n true (fboo S)).1) 18 dX0_book_15 rfl sV_X0_323_0 hx2.t (by rfl) (ev_X0_looked (bb := true) (f := (fboo S)) g_X3_1_10 g_X3_13_10 g_X3_17_10 g_X3_20_10 g_X3_23_10 sY_look10 (by decide) g_X0_307_10 g_X0_312_10 g_X2_3_10 sY_tried10 sY_done10 hx2 (by rw [p2]; show mb w + 22 < A.2 + 1; omega) hw hT p1 h22 (fun hb A3 x3 b N c y1 y2 y3 y4 y5 => ev_X10_look y1 y4 y5)) (fun A4 hP => ?_)
  obtain ⟨x', hx', hF'⟩ := hP
  exact r_iret dX0_book_18 rfl (by decide) (by decide) ⟨rfl, x', hx', hF2.tr hF'⟩

