/-! THE CLASS: roads are made; lose -/
set_option maxRecDepth 100000
theorem fwR0 {kd : Nat} (hk : kd ≤ 2) : FldW (3 + kd) 0 true .int := by
  match kd, hk with
  | 0, _ => exact fw_3_0
  | 1, _ => exact fw_4_0
  | 2, _ => exact fw_5_0
theorem foR0 {kd : Nat} (hk : kd ≤ 2) : FldO (3 + kd) 0 "ThirdEbb$Soft" := by
  match kd, hk with
  | 0, _ => exact fo_3_0
  | 1, _ => exact fo_4_0
  | 2, _ => exact fo_5_0
theorem fwR1 {kd : Nat} (hk : kd ≤ 2) : FldW (3 + kd) 1 true .int := by
  match kd, hk with
  | 0, _ => exact fw_3_1
  | 1, _ => exact fw_4_1
  | 2, _ => exact fw_5_1
theorem foR1 {kd : Nat} (hk : kd ≤ 2) : FldO (3 + kd) 1 "ThirdEbb$Soft" := by
  match kd, hk with
  | 0, _ => exact fo_3_1
  | 1, _ => exact fo_4_1
  | 2, _ => exact fo_5_1
theorem fwR2 {kd : Nat} (hk : kd ≤ 2) : FldW (3 + kd) 2 true .int := by
  match kd, hk with
  | 0, _ => exact fw_3_2
  | 1, _ => exact fw_4_2
  | 2, _ => exact fw_5_2
theorem foR2 {kd : Nat} (hk : kd ≤ 2) : FldO (3 + kd) 2 "ThirdEbb$Soft" := by
  match kd, hk with
  | 0, _ => exact fo_3_2
  | 1, _ => exact fo_4_2
  | 2, _ => exact fo_5_2
theorem fwR3 {kd : Nat} (hk : kd ≤ 2) : FldW (3 + kd) 3 true .int := by
  match kd, hk with
  | 0, _ => exact fw_3_3
  | 1, _ => exact fw_4_3
  | 2, _ => exact fw_5_3
theorem foR3 {kd : Nat} (hk : kd ≤ 2) : FldO (3 + kd) 3 "ThirdEbb$Soft" := by
  match kd, hk with
  | 0, _ => exact fo_3_3
  | 1, _ => exact fo_4_3
  | 2, _ => exact fo_5_3
theorem fwR4 {kd : Nat} (hk : kd ≤ 2) : FldW (3 + kd) 4 true .int := by
  match kd, hk with
  | 0, _ => exact fw_3_4
  | 1, _ => exact fw_4_4
  | 2, _ => exact fw_5_4
theorem foR4 {kd : Nat} (hk : kd ≤ 2) : FldO (3 + kd) 4 "ThirdEbb$Soft" := by
  match kd, hk with
  | 0, _ => exact fo_3_4
  | 1, _ => exact fo_4_4
  | 2, _ => exact fo_5_4
theorem fwR6 {kd : Nat} (hk : kd ≤ 2) : FldW (3 + kd) 6 true (.object "ThirdEbb") := by
  match kd, hk with
  | 0, _ => exact fw_3_6
  | 1, _ => exact fw_4_6
  | 2, _ => exact fw_5_6
theorem foR6 {kd : Nat} (hk : kd ≤ 2) : FldO (3 + kd) 6 "ThirdEbb$Soft" := by
  match kd, hk with
  | 0, _ => exact fo_3_6
  | 1, _ => exact fo_4_6
  | 2, _ => exact fo_5_6
set_option maxHeartbeats 4000000 in
theorem ev_X6_init {w : WE} {A : Hp} {a b : Nat} {n c d e f : Int32} {kd : Nat} {f0 f1 f2 f3 f4 f5 f6 : Value} {l : List Value} (hA : A.1 a = some (.inr (3 + kd, f0 :: f1 :: f2 :: f3 :: f4 :: f5 :: f6 :: l))) (hk : kd ≤ 2) (hba : wb w ≤ a) : EvP w mX6_init 1 0 0 [.ref a, .ref b, .int n, .int c, .int d, .int e, .int f] A none (fun A' => A'.1 a = some (.inr (3 + kd, .int n :: .int c :: .int d :: .int e :: .int f :: f5 :: .ref b :: l)) ∧ A'.2 = A.2 ∧ ∀ q, q ≠ a → A'.1 q = A.1 q) := by
  refine Ev.mk 0 [some (.ref a), some (.ref b), some (.int n), some (.int c), some (.int d), some (.int e), some (.int f)] rfl plX6 (Nat.le_of_ble_eq_true rfl) ?_
  refine r_aload_n 1 dX6_init_0 rfl rfl lo0 ?_
  refine r_aload_n 2 dX6_init_1 rfl rfl lo1 ?_
  refine r_putF 5 dX6_init_2 rfl (gR_X6_3 hk) (cwR hk) (fwR6 hk) (foR6 hk) rfl hA hba so6 (Nat.le_of_ble_eq_true rfl) rfl rfl ?_
  refine r_aload_n 6 dX6_init_5 rfl rfl lo0 ?_
  refine r_objInit 9 dX6_init_6 rfl q263 q89 q90 (by decide) (by decide) ?_
  refine r_aload_n 10 dX6_init_9 rfl rfl lo0 ?_
  refine r_iload_n 11 dX6_init_10 rfl rfl lo2 ?_
  refine r_putF 14 dX6_init_11 rfl (gR_X6_15 hk) (cwR hk) (fwR0 hk) (foR0 hk) rfl hp_up_s hba so0 (Nat.le_of_ble_eq_true rfl) rfl rfl ?_
  refine r_aload_n 15 dX6_init_14 rfl rfl lo0 ?_
  refine r_iload_n 16 dX6_init_15 rfl rfl lo3 ?_
  refine r_putF 19 dX6_init_16 rfl (gR_X6_19 hk) (cwR hk) (fwR1 hk) (foR1 hk) rfl hp_up_s hba so1 (Nat.le_of_ble_eq_true rfl) rfl rfl ?_
  refine r_aload_n 20 dX6_init_19 rfl rfl lo0 ?_
  refine r_iload 22 dX6_init_20 rfl lo4 ?_
  refine r_putF 25 dX6_init_22 rfl (gR_X6_22 hk) (cwR hk) (fwR2 hk) (foR2 hk) rfl hp_up_s hba so2 (Nat.le_of_ble_eq_true rfl) rfl rfl ?_
  refine r_aload_n 26 dX6_init_25 rfl rfl lo0 ?_
  refine r_iload 28 dX6_init_26 rfl lo5 ?_
  refine r_putF 31 dX6_init_28 rfl (gR_X6_25 hk) (cwR hk) (fwR3 hk) (foR3 hk) rfl hp_up_s hba so3 (Nat.le_of_ble_eq_true rfl) rfl rfl ?_
  refine r_aload_n 32 dX6_init_31 rfl rfl lo0 ?_
  refine r_iload 34 dX6_init_32 rfl lo6 ?_
  refine r_putF 37 dX6_init_34 rfl (gR_X6_28 hk) (cwR hk) (fwR4 hk) (foR4 hk) rfl hp_up_s hba so4 (Nat.le_of_ble_eq_true rfl) rfl rfl ?_
  exact r_vret dX6_init_37 rfl (Nat.le_refl _) (Nat.le_refl _) ⟨rfl, hp_up_s, rfl, fun q hq => (hp_up_n hq).trans ((hp_up_n hq).trans ((hp_up_n hq).trans ((hp_up_n hq).trans ((hp_up_n hq).trans (hp_up_n hq)))))⟩

theorem gB {kd : Nat} (hk : kd = 1 ∨ kd = 2) : SiteG "ThirdEbb$Bridged" 1 (3 + kd) 7 ∧ FldW (3 + kd) 7 true (.object "ThirdEbb") ∧ FldO (3 + kd) 7 "ThirdEbb$Bridged" := by
  rcases hk with rfl | rfl
  · exact ⟨g_X7_1_4, fw_4_7, fo_4_7⟩
  · exact ⟨g_X7_1_5, fw_5_7, fo_5_7⟩
set_option maxHeartbeats 4000000 in
theorem ev_X7_init {w : WE} {A : Hp} {a b : Nat} {n c d e f : Int32} {kd : Nat} {f0 f1 f2 f3 f4 f5 f6 f7 : Value} {l : List Value} (hA : A.1 a = some (.inr (3 + kd, f0 :: f1 :: f2 :: f3 :: f4 :: f5 :: f6 :: f7 :: l))) (hk1 : kd = 1 ∨ kd = 2) (hba : wb w ≤ a) : EvP w mX7_init 2 0 0 [.ref a, .ref b, .int n, .int c, .int d, .int e, .int f] A none (fun A' => A'.1 a = some (.inr (3 + kd, .int n :: .int c :: .int d :: .int e :: .int f :: f5 :: .ref b :: .ref b :: l)) ∧ A'.2 = A.2 ∧ ∀ q, q ≠ a → A'.1 q = A.1 q) := by
  refine Ev.mk 0 [some (.ref a), some (.ref b), some (.int n), some (.int c), some (.int d), some (.int e), some (.int f)] rfl plX7 (Nat.le_of_ble_eq_true rfl) ?_
  have hk : kd ≤ 2 := by omega
  refine r_aload_n 1 dX7_init_0 rfl rfl lo0 ?_
  refine r_aload_n 2 dX7_init_1 rfl rfl lo1 ?_
  refine r_putF 5 dX7_init_2 rfl (gB hk1).1 (cwR hk) (gB hk1).2.1 (gB hk1).2.2 rfl hA hba so7 (Nat.le_of_ble_eq_true rfl) rfl rfl ?_
  refine r_aload_n 6 dX7_init_5 rfl rfl lo0 ?_
  refine r_aload_n 7 dX7_init_6 rfl rfl lo1 ?_
  refine r_iload_n 8 dX7_init_7 rfl rfl lo2 ?_
  refine r_iload_n 9 dX7_init_8 rfl rfl lo3 ?_
  refine r_iload 11 dX7_init_9 rfl lo4 ?_
  refine r_iload 13 dX7_init_11 rfl lo5 ?_
  refine r_iload 15 dX7_init_13 rfl lo6 ?_
  refine rx_I6v 18 dX7_init_15 rfl sI_X7_7 (by rfl) (ev_X6_init hp_up_s hk hba) (fun A hP => ?_)
  obtain ⟨p1, p2, p3⟩ := hP
  exact r_vret dX7_init_18 rfl (Nat.le_refl _) (Nat.le_refl _) ⟨rfl, p1, p2, fun q hq => (p3 q hq).trans (hp_up_n hq)⟩

set_option maxHeartbeats 4000000 in
theorem ev_X8_init {w : WE} {A : Hp} {a b : Nat} {n c d e f : Int32} {f0 f1 f2 f3 f4 f5 f6 f7 f8 : Value} {l : List Value} (hA : A.1 a = some (.inr (5, f0 :: f1 :: f2 :: f3 :: f4 :: f5 :: f6 :: f7 :: f8 :: l))) (hba : wb w ≤ a) : EvP w mX8_init 3 0 0 [.ref a, .ref b, .int n, .int c, .int d, .int e, .int f] A none (fun A' => A'.1 a = some (.inr (5, .int n :: .int c :: .int d :: .int e :: .int f :: f5 :: .ref b :: .ref b :: .ref b :: l)) ∧ A'.2 = A.2 ∧ ∀ q, q ≠ a → A'.1 q = A.1 q) := by
  refine Ev.mk 0 [some (.ref a), some (.ref b), some (.int n), some (.int c), some (.int d), some (.int e), some (.int f)] rfl plX8 (Nat.le_of_ble_eq_true rfl) ?_
  refine r_aload_n 1 dX8_init_0 rfl rfl lo0 ?_
  refine r_aload_n 2 dX8_init_1 rfl rfl lo1 ?_
  refine r_putF 5 dX8_init_2 rfl g_X8_1_5 cw_5 fw_5_8 fo_5_8 rfl hA hba so8 (Nat.le_of_ble_eq_true rfl) rfl rfl ?_
  refine r_aload_n 6 dX8_init_5 rfl rfl lo0 ?_
  refine r_aload_n 7 dX8_init_6 rfl rfl lo1 ?_
  refine r_iload_n 8 dX8_init_7 rfl rfl lo2 ?_
  refine r_iload_n 9 dX8_init_8 rfl rfl lo3 ?_
  refine r_iload 11 dX8_init_9 rfl lo4 ?_
  refine r_iload 13 dX8_init_11 rfl lo5 ?_
  refine r_iload 15 dX8_init_13 rfl lo6 ?_
  refine rx_I6v 18 dX8_init_15 rfl sI_X8_7 (by rfl) (ev_X7_init (kd := 2) hp_up_s (Or.inr rfl) hba) (fun A hP => ?_)
  obtain ⟨p1, p2, p3⟩ := hP
  exact r_vret dX8_init_18 rfl (Nat.le_refl _) (Nat.le_refl _) ⟨rfl, p1, p2, fun q hq => (p3 q hq).trans (hp_up_n hq)⟩

theorem ne_ii {w : WE} {A : Hp} {a e t n N : Nat} {f : Nat → Int32} {t' : Nat} {g : Nat → Option Nat} (h1 : A.1 a = some (eI w t n f)) (h2 : A.1 e = some (eR w t' N g)) : a ≠ e := fun h => by
  rw [h, h2] at h1
  have z : false = true := congrArg (fun e : Option va_E => match e with
    | some (.inl (_, _, .inl _)) => true
    | _ => false) h1
  cases z
theorem caR {kd : Nat} (hk : kd ≤ 2) : CaO (3 + kd) "java/lang/Object" := by
  match kd, hk with
  | 0, _ => exact ⟨RX6, TX6, 7, rfl, Or.inr q1512⟩
  | 1, _ => exact ⟨RX7, TX7, 8, rfl, Or.inr q1513⟩
  | 2, _ => exact ⟨RX8, TX8, 9, rfl, Or.inr q1514⟩
theorem XS.addR {w : WE} {A A' : Hp} {x : XT} {S : ST} {q : Rd} {a0 e' : Nat} {c : Int32} {g' : Nat → Option Nat} (h : XS w A x S) (hlt : ∀ (q : Nat) (e : va_E), A.1 q = some e → q < A.2) (h2 : mb w + 22 < A.2) (ha0 : A.2 ≤ a0) (p1 : A'.1 (wb w + 2) = some (.inr (7, alF c e' (S.2.2.1.length + 1)))) (p2 : A'.1 e' = some (eR w 5 10 g')) (p3 : (e' = x.2.2.1.2 ∧ wb w ≤ e') ∨ (A.2 ≤ e' ∧ e' ≠ a0)) (p6 : g' S.2.2.1.length = some a0) (p7 : ∀ i, i < S.2.2.1.length → g' i = some (x.2.2.2.2.1 i)) (p8 : ∀ z, z ≠ wb w + 2 → z ≠ e' → z ≠ a0 → A'.1 z = A.1 z) (p9 : A'.1 a0 = some (rdE (wb w) S.2.2.1.length q)) (hok : StOk (sR S (S.2.2.1 ++ [q]))) : XS w A' (x.1, x.2.1, (x.2.2.1.1, e'), x.2.2.2.1, (fun i => if i = S.2.2.1.length then a0 else x.2.2.2.2.1 i), x.2.2.2.2.2) (sR S (S.2.2.1 ++ [q])) := by
  have hn10 : S.2.2.1.length + 1 ≤ 10 := by
    have := hok.2.2.2.1
    simpa using this
  obtain ⟨⟨a1, a2, a3⟩, ⟨b1, b2⟩, ⟨c1, c2⟩, d, e, ⟨f1, f2, f3⟩, g⟩ := h
  have hb : wb w + 21 = mb w := rfl
  have he' : dyn w e' := by
    rcases p3 with ⟨p3, p3'⟩ | p3
    · rcases c1.ed with z | z
      · rw [p3]; exact z
      · omega
    · omega
  have hfx : ∀ k, k ≤ 20 → k ≠ 2 → Kp A A' (wb w + k) := fun k hk h2 z hz => (p8 _ (by omega) (by omega) (by omega)).trans hz
  have hin : ∀ {z : Nat} {y : Nat × List Value}, z ≠ wb w + 2 → A.1 z = some (.inr y) → A'.1 z = some (.inr y) := fun {z y} hne hz => (p8 z hne (by
      rcases p3 with p3 | p3
      · rw [p3.1]
        obtain ⟨_, _, _, _, u, _⟩ := c1
        exact ne_io hz u
      · have := hlt _ _ hz
        omega) (by have := hlt _ _ hz; omega)).trans hz
  have hem : Kp A A' x.2.2.1.1 := fun z hz => (p8 _ (by rcases b1.ed with u | u <;> omega) (by
      rcases p3 with p3 | p3
      · intro u
        have := e.1 (u.trans p3.1)
        rcases b1.ed with v | v <;> omega
      · have := hlt _ _ hz
        omega) (by have := hlt _ _ hz; omega)).trans hz
  refine ⟨⟨hfx 0 (by decide) (by decide) _ a1, fun k hk => hfx k (by rcases hk with h | h <;> omega) (by rcases hk with h | h <;> omega) _ (a2 k hk), hfx 4 (by decide) (by decide) _ a3⟩, ⟨b1.keep (hfx 1 (by decide) (by decide)) hem, fun i p hp => ⟨(b2 i p hp).1, hin (show x.2.2.2.1 i ≠ wb w + 2 by have := (b2 i p hp).1; omega) (b2 i p hp).2⟩⟩, ⟨⟨c, 10, g', ?_, p2, Or.inl ⟨he', rfl⟩, ?_, fun i hi => ?_⟩, fun i p hp => ?_⟩, ⟨hfx 20 (by decide) (by decide) _ d.1, fun k hk4 => ?_, d.2.2⟩, ⟨?_, e.2⟩, ⟨(p8 _ (by omega) (by omega) (by omega)).trans f1, f2, f3⟩, hok⟩
  · show A'.1 _ = some (.inr (7, alF c e' (S.2.2.1 ++ [q]).length))
    rw [List.length_append]
    exact p1
  · show (S.2.2.1 ++ [q]).length ≤ 10
    rw [List.length_append]
    exact hn10
  · replace hi : i < (S.2.2.1 ++ [q]).length := hi
    rw [List.length_append] at hi
    replace hi : i < S.2.2.1.length + 1 := hi
    show g' i = some (if i = S.2.2.1.length then a0 else x.2.2.2.2.1 i)
    by_cases u : i = S.2.2.1.length
    · rw [if_pos u, u, p6]
    · rw [if_neg u]
      exact p7 i (by omega)
  · replace hp : (S.2.2.1 ++ [q])[i]? = some p := hp
    show dyn w (if i = S.2.2.1.length then a0 else x.2.2.2.2.1 i) ∧ A'.1 (if i = S.2.2.1.length then a0 else x.2.2.2.2.1 i) = _
    by_cases u : i < S.2.2.1.length
    · rw [List.getElem?_append_left u] at hp
      rw [if_neg (by omega)]
      exact ⟨(c2 i p hp).1, hin (by have := (c2 i p hp).1; omega) (c2 i p hp).2⟩
    · rw [List.getElem?_append_right (by omega)] at hp
      by_cases v : i = S.2.2.1.length
      · subst v
        simp at hp
        subst hp
        rw [if_pos rfl]
        exact ⟨by omega, p9⟩
      · rw [List.getElem?_eq_none (by simp; omega)] at hp
        cases hp
  · rcases d.2.1 k hk4 with h | ⟨q', p, f, u1, u2, u3, u4, u5, u6, u7, u8, u9⟩
    · exact Or.inl h
    · refine Or.inr ⟨q', p, f, u1, u2, u3, u4, u5, u6, hin (by omega) u7, (p8 _ (by omega) ?_ (by have := hlt _ _ u8; omega)).trans u8, u9⟩
      rcases p3 with p3 | p3
      · rw [p3.1]
        obtain ⟨_, _, _, _, u, _⟩ := c1
        exact ne_ii u8 u
      · have := hlt _ _ u8
        omega
  · intro u
    replace u : x.2.2.1.1 = e' := u
    show x.2.2.1.1 = de w
    rcases p3 with p3 | p3
    · have := e.1 (u.trans p3.1)
      exact this
    · obtain ⟨_, _, _, _, z, _⟩ := b1
      have := hlt _ _ z
      omega
set_option maxHeartbeats 4000000 in
theorem ev_X0_road {w : WE} {A : Hp} {x : XT} {S : ST} {kd a b bed len : Int32} (hx : XS w A x S) (h22 : mb w + 22 < A.2) : EvP w mX0_road 6 2 19 [.ref (wb w), .int kd, .int a, .int b, .int bed, .int len] A (some (.int (sp_road S kd a b bed len).1)) (fun A' => ∃ x' : XT, XS w A' x' (sp_road S kd a b bed len).2 ∧ Fx w A A') := by
  refine Ev.mk 1 [some (.ref (wb w)), some (.int kd), some (.int a), some (.int b), some (.int bed), some (.int len), none] rfl plX0 (Nat.le_of_ble_eq_true rfl) ?_
  have hi6 := hx.le
  obtain ⟨cr, pr, gr, r1, r2, r3, r4, r5⟩ := hx.rl.use
  have hl10 := hx.ok.2.2.2.1
  refine r_aload_n 1 dX0_road_0 rfl rfl lo0 ?_
  refine r_iload_n 2 dX0_road_1 rfl rfl lo2 ?_
  refine r_cV1 5 dX0_road_2 rfl sV_X0_142_0 hx.t (by rfl) (ev_X0_noIsland hx) ?_
  refine r_if_neB 21 8 dX0_road_5 rfl (by decide) (fun hc5 => ?_) (fun hc5 => ?_)
  · refine r_iconst 22 dX0_road_21 rfl ic_m1 ?_
    exact r_iret dX0_road_22 rfl (by decide) (by decide) (by have e : sp_road S kd a b bed len = (-1, S) := by { unfold sp_road; rw [if_pos (by first | exact Or.inl (by rw [nb_f hc5]; decide) | exact Or.inr (Or.inl (by rw [nb_f hc13]; decide)) | exact Or.inr (Or.inr hc18))] }; rw [e]; exact ⟨rfl, x, hx, Fx.rf⟩)
  · refine r_aload_n 9 dX0_road_8 rfl rfl lo0 ?_
    refine r_iload_n 10 dX0_road_9 rfl rfl lo3 ?_
    refine r_cV1 13 dX0_road_10 rfl sV_X0_142_0 hx.t (by rfl) (ev_X0_noIsland hx) ?_
    refine r_if_neB 21 16 dX0_road_13 rfl (by decide) (fun hc13 => ?_) (fun hc13 => ?_)
    · refine r_iconst 22 dX0_road_21 rfl ic_m1 ?_
      exact r_iret dX0_road_22 rfl (by decide) (by decide) (by have e : sp_road S kd a b bed len = (-1, S) := by { unfold sp_road; rw [if_pos (by first | exact Or.inl (by rw [nb_f hc5]; decide) | exact Or.inr (Or.inl (by rw [nb_f hc13]; decide)) | exact Or.inr (Or.inr hc18))] }; rw [e]; exact ⟨rfl, x, hx, Fx.rf⟩)
    · refine r_iload_n 17 dX0_road_16 rfl rfl lo2 ?_
      refine r_iload_n 18 dX0_road_17 rfl rfl lo3 ?_
      refine r_icmp_ne 23 21 dX0_road_18 rfl (by decide) (fun hc18 => ?_) (fun hc18 => ?_)
      · refine r_iload_n 24 dX0_road_23 rfl rfl lo1 ?_
        refine r_i2l 25 dX0_road_24 rfl rfl ?_
        refine r_lconst 26 dX0_road_25 rfl lc_0 ?_
        refine r_ldc2 29 dX0_road_26 rfl q255 ?_
        refine r_cS3 32 dX0_road_29 rfl sS_X0_11 (by rfl) (ev_X0_in kd.toInt 0 2 (Int32.toInt_toInt64 _) (by decide) (by decide)) ?_
        refine r_if_eqB 61 35 dX0_road_32 rfl (by decide) (fun hc32 => ?_) (fun hc32 => ?_)
        · refine r_bipush 63 dX0_road_61 rfl bi_m2 ?_
          exact r_iret dX0_road_63 rfl (by decide) (by decide) (by have e : sp_road S kd a b bed len = (-2, S) := by { unfold sp_road; rw [if_neg (fun u => u.elim (fun z => z (nb_t hc5)) (fun u => u.elim (fun z => z (nb_t hc13)) hc18)), if_pos (by first | exact Or.inl (by rw [hc32]; decide) | exact Or.inr (Or.inl (by rw [hc45]; decide)) | exact Or.inr (Or.inr (by rw [hc58]; decide)))] }; rw [e]; exact ⟨rfl, x, hx, Fx.rf⟩)
        · refine r_iload 37 dX0_road_35 rfl lo4 ?_
          refine r_i2l 38 dX0_road_37 rfl rfl ?_
          refine r_lconst 39 dX0_road_38 rfl lc_0 ?_
          refine r_ldc2 42 dX0_road_39 rfl q256 ?_
          refine r_cS3 45 dX0_road_42 rfl sS_X0_11 (by rfl) (ev_X0_in bed.toInt 0 400 (Int32.toInt_toInt64 _) (by decide) (by decide)) ?_
          refine r_if_eqB 61 48 dX0_road_45 rfl (by decide) (fun hc45 => ?_) (fun hc45 => ?_)
          · refine r_bipush 63 dX0_road_61 rfl bi_m2 ?_
            exact r_iret dX0_road_63 rfl (by decide) (by decide) (by have e : sp_road S kd a b bed len = (-2, S) := by { unfold sp_road; rw [if_neg (fun u => u.elim (fun z => z (nb_t hc5)) (fun u => u.elim (fun z => z (nb_t hc13)) hc18)), if_pos (by first | exact Or.inl (by rw [hc32]; decide) | exact Or.inr (Or.inl (by rw [hc45]; decide)) | exact Or.inr (Or.inr (by rw [hc58]; decide)))] }; rw [e]; exact ⟨rfl, x, hx, Fx.rf⟩)
          · refine r_iload 50 dX0_road_48 rfl lo5 ?_
            refine r_i2l 51 dX0_road_50 rfl rfl ?_
            refine r_lconst 52 dX0_road_51 rfl lc_1 ?_
            refine r_ldc2 55 dX0_road_52 rfl q257 ?_
            refine r_cS3 58 dX0_road_55 rfl sS_X0_11 (by rfl) (ev_X0_in len.toInt 1 6 (Int32.toInt_toInt64 _) (by decide) (by decide)) ?_
            refine r_if_neB 64 61 dX0_road_58 rfl (by decide) (fun hc58 => ?_) (fun hc58 => ?_)
            · refine r_aload_n 65 dX0_road_64 rfl rfl lo0 ?_
              refine r_get 68 dX0_road_65 rfl g_X0_28_0 hx.t lo3 ?_
              refine r_cF0 73 dX0_road_68 rfl sF_X0_65_7 r1 (by rfl) (ev_J2_size r1) ?_
              refine r_istore 75 dX0_road_73 rfl so6 rfl ?_
              refine r_iload 77 dX0_road_75 rfl lo6 ?_
              refine r_bipush 79 dX0_road_77 rfl bi_10 ?_
              first | refine r_icmp_neN 85 82 dX0_road_79 rfl (by decide) (by omega) (by omega) (fun hc79 => ?_) (fun hc79 => ?_) | refine r_icmp_ne 85 82 dX0_road_79 rfl (by decide) (fun hc79 => ?_) (fun hc79 => ?_)
              · obtain ⟨kd, a1, b1, rfl⟩ := btw_nat hc32 (by decide) (by decide)
                obtain ⟨a, a2, rfl⟩ := isI_nat (nb_t hc5) hi6
                obtain ⟨b, a3, rfl⟩ := isI_nat (nb_t hc13) hi6
                obtain ⟨bed, a4, b4, rfl⟩ := btw_nat hc45 (by decide) (by decide)
                obtain ⟨len, a5, b5, rfl⟩ := btw_nat hc58 (by decide) (by decide)
                refine r_aload_n 86 dX0_road_85 rfl rfl lo0 ?_
                refine r_get 89 dX0_road_86 rfl g_X0_28_0 hx.t lo3 ?_
                refine r_iload_n 90 dX0_road_89 rfl rfl lo1 ?_
                first | refine r_if_neN 112 93 dX0_road_90 rfl (by decide) (by omega) (fun hc90 => ?_) (fun hc90 => ?_) | refine r_if_ne 112 93 dX0_road_90 rfl (by decide) (fun hc90 => ?_) (fun hc90 => ?_)
                · refine r_iload_n 113 dX0_road_112 rfl rfl lo1 ?_
                  refine r_iconst 114 dX0_road_113 rfl ic_1 ?_
                  first | refine r_icmp_neN 136 117 dX0_road_114 rfl (by decide) (by omega) (by omega) (fun hc114 => ?_) (fun hc114 => ?_) | refine r_icmp_ne 136 117 dX0_road_114 rfl (by decide) (fun hc114 => ?_) (fun hc114 => ?_)
                  · refine r_new 139 dX0_road_136 rfl sN_X0_155 dv_5 (by decide) (by decide) (fun hlt hwb => ?_)
                    refine r_dup 140 dX0_road_139 rfl rfl ?_
                    refine r_aload_n 141 dX0_road_140 rfl rfl lo0 ?_
                    refine r_iload 143 dX0_road_141 rfl lo6 ?_
                    refine r_iload_n 144 dX0_road_143 rfl rfl lo2 ?_
                    refine r_iload_n 145 dX0_road_144 rfl rfl lo3 ?_
                    refine r_iload 147 dX0_road_145 rfl lo4 ?_
                    refine r_iload 149 dX0_road_147 rfl lo5 ?_
                    refine rx_I6v 152 dX0_road_149 rfl sI_X0_157 (by rfl) (ev_X8_init hp_new_s hwb) (fun A1 hP => ?_)
                    obtain ⟨p1, p2, p3⟩ := hP
                    have hk0 : kd = 2 := by omega
                    subst hk0
                    have hb21 : wb w + 21 = mb w := rfl
                    have hA1n : ∀ z, z ≠ A.2 → A1.1 z = A.1 z := fun z hz => (p3 z hz).trans (hp_new_n hz)
                    have hA12 : A1.2 = A.2 + 1 := p2
                    obtain ⟨cr, pr, gr, r1, r2, r3, r4, r5⟩ := hx.rl
                    refine rx_F1x 157 dX0_road_152 rfl sF_X0_97_7 ((hA1n _ (by omega)).trans r1) (by rfl) (ev_J2_add (cap := pr) (g := gr) ((hA1n _ (by omega)).trans r1) ((hA1n _ (by have := hlt _ _ r2; omega)).trans r2) hx.2.2.2.2.2.1.2.1 (by omega) p1 (caR (kd := 2) (by decide)) (by decide) (by omega) (by rcases r3 with h | h <;> omega) (r3.imp (fun h => ⟨dyn_wb h.1, by omega⟩) (fun h => ⟨h.1, h.2.1, by omega, h.2.2⟩))) (fun A2 hP => ?_)
                    obtain ⟨e', cap', g', s1, s2, s3, s4, s5, s6, s7, s8⟩ := hP
                    refine r_pop 158 dX0_road_157 rfl rfl ?_
                    refine r_iload 160 dX0_road_158 rfl lo6 ?_
                    exact r_iret dX0_road_160 rfl (by decide) (by decide) (by
                      have e : sp_road S (nI 2) (nI a) (nI b) (nI bed) (nI len) = (nI S.2.2.1.length, sR S (S.2.2.1 ++ [(2, a, b, bed, len, 0)])) := by
                        unfold sp_road
                        rw [nI_nat (j := 2) (by omega), nI_nat (j := a) (by omega), nI_nat (j := b) (by omega), nI_nat (j := bed) (by omega), nI_nat (j := len) (by omega)]
                        simp [nb_t hc5, nb_t hc13, hc18, hc32, hc45, hc58, hc79]
                      rw [e]
                      have hab : ¬ a = b := fun h => hc18 (by rw [h])
                      have hcap : cap' = 10 := by
                        rcases s3 with h | h
                        · rcases r3 with u | u
                          · rw [h.2.1]; exact u.2
                          · omega
                        · exact h.2.1
                      subst hcap
                      refine ⟨rfl, _, hx.addR (A' := A2) (a0 := A.2) (q := (2, a, b, bed, len, 0)) hlt h22 (Nat.le_refl _) s1 s2 (s3.imp (fun h => ⟨h.1, s4⟩) (fun h => ⟨by omega, by omega⟩)) s6 (fun i hi => (s7 i hi).trans (r5 i hi)) (fun z z1 z2 z3 => (s8 z z1 z2).trans (hA1n z z3)) ((s8 _ (by omega) ?_).trans p1) ⟨⟨Or.inr (hx.ok.1.pos (by omega)), fun p hp => ?_⟩, hx.ok.2.1, hx.ok.2.2.1, by rw [List.length_append]; show S.2.2.1.length + 1 ≤ 10; omega, fun p hp => ?_⟩, ?_⟩
                      · rcases s3 with h | h
                        · rw [h.1]
                          have := hlt _ _ r2
                          omega
                        · omega
                      · rcases List.mem_append.mp hp with h | h
                        · exact hx.ok.1.2 p h
                        · simp at h
                          subst h
                          exact ⟨Nat.zero_le _, fun _ => rfl⟩
                      · rcases List.mem_append.mp hp with h | h
                        · exact hx.ok.2.2.2.2 p h
                        · simp at h
                          subst h
                          exact ⟨(by show 2 ≤ 2; decide), by dsimp only; omega, by dsimp only; omega, hab, by dsimp only; omega, by dsimp only; omega, by dsimp only; omega, Nat.zero_le _⟩
                      · refine ⟨?_, fun z z1 z2 => ?_⟩
                        · rcases s3 with h | h <;> omega
                        · refine (s8 z (by omega) ?_).trans (hA1n z (by omega))
                          rcases s3 with h | h
                          · rw [h.1]
                            rcases hx.rl.ed with u | u <;> omega
                          · omega)
                  · refine r_new 120 dX0_road_117 rfl sN_X0_152 dv_4 (by decide) (by decide) (fun hlt hwb => ?_)
                    refine r_dup 121 dX0_road_120 rfl rfl ?_
                    refine r_aload_n 122 dX0_road_121 rfl rfl lo0 ?_
                    refine r_iload 124 dX0_road_122 rfl lo6 ?_
                    refine r_iload_n 125 dX0_road_124 rfl rfl lo2 ?_
                    refine r_iload_n 126 dX0_road_125 rfl rfl lo3 ?_
                    refine r_iload 128 dX0_road_126 rfl lo4 ?_
                    refine r_iload 130 dX0_road_128 rfl lo5 ?_
                    refine rx_I6v 133 dX0_road_130 rfl sI_X0_154 (by rfl) (ev_X7_init (kd := 1) hp_new_s (Or.inl rfl) hwb) (fun A1 hP => ?_)
                    obtain ⟨p1, p2, p3⟩ := hP
                    have hk0 : kd = 1 := by omega
                    subst hk0
                    refine r_goto 152 dX0_road_133 (by decide) ?_
                    have hb21 : wb w + 21 = mb w := rfl
                    have hA1n : ∀ z, z ≠ A.2 → A1.1 z = A.1 z := fun z hz => (p3 z hz).trans (hp_new_n hz)
                    have hA12 : A1.2 = A.2 + 1 := p2
                    obtain ⟨cr, pr, gr, r1, r2, r3, r4, r5⟩ := hx.rl
                    refine rx_F1x 157 dX0_road_152 rfl sF_X0_97_7 ((hA1n _ (by omega)).trans r1) (by rfl) (ev_J2_add (cap := pr) (g := gr) ((hA1n _ (by omega)).trans r1) ((hA1n _ (by have := hlt _ _ r2; omega)).trans r2) hx.2.2.2.2.2.1.2.1 (by omega) p1 (caR (kd := 1) (by decide)) (by decide) (by omega) (by rcases r3 with h | h <;> omega) (r3.imp (fun h => ⟨dyn_wb h.1, by omega⟩) (fun h => ⟨h.1, h.2.1, by omega, h.2.2⟩))) (fun A2 hP => ?_)
                    obtain ⟨e', cap', g', s1, s2, s3, s4, s5, s6, s7, s8⟩ := hP
                    refine r_pop 158 dX0_road_157 rfl rfl ?_
                    refine r_iload 160 dX0_road_158 rfl lo6 ?_
                    exact r_iret dX0_road_160 rfl (by decide) (by decide) (by
                      have e : sp_road S (nI 1) (nI a) (nI b) (nI bed) (nI len) = (nI S.2.2.1.length, sR S (S.2.2.1 ++ [(1, a, b, bed, len, 0)])) := by
                        unfold sp_road
                        rw [nI_nat (j := 1) (by omega), nI_nat (j := a) (by omega), nI_nat (j := b) (by omega), nI_nat (j := bed) (by omega), nI_nat (j := len) (by omega)]
                        simp [nb_t hc5, nb_t hc13, hc18, hc32, hc45, hc58, hc79]
                      rw [e]
                      have hab : ¬ a = b := fun h => hc18 (by rw [h])
                      have hcap : cap' = 10 := by
                        rcases s3 with h | h
                        · rcases r3 with u | u
                          · rw [h.2.1]; exact u.2
                          · omega
                        · exact h.2.1
                      subst hcap
                      refine ⟨rfl, _, hx.addR (A' := A2) (a0 := A.2) (q := (1, a, b, bed, len, 0)) hlt h22 (Nat.le_refl _) s1 s2 (s3.imp (fun h => ⟨h.1, s4⟩) (fun h => ⟨by omega, by omega⟩)) s6 (fun i hi => (s7 i hi).trans (r5 i hi)) (fun z z1 z2 z3 => (s8 z z1 z2).trans (hA1n z z3)) ((s8 _ (by omega) ?_).trans p1) ⟨⟨Or.inr (hx.ok.1.pos (by omega)), fun p hp => ?_⟩, hx.ok.2.1, hx.ok.2.2.1, by rw [List.length_append]; show S.2.2.1.length + 1 ≤ 10; omega, fun p hp => ?_⟩, ?_⟩
                      · rcases s3 with h | h
                        · rw [h.1]
                          have := hlt _ _ r2
                          omega
                        · omega
                      · rcases List.mem_append.mp hp with h | h
                        · exact hx.ok.1.2 p h
                        · simp at h
                          subst h
                          exact ⟨Nat.zero_le _, fun _ => rfl⟩
                      · rcases List.mem_append.mp hp with h | h
                        · exact hx.ok.2.2.2.2 p h
                        · simp at h
                          subst h
                          exact ⟨(by show 1 ≤ 2; decide), by dsimp only; omega, by dsimp only; omega, hab, by dsimp only; omega, by dsimp only; omega, by dsimp only; omega, Nat.zero_le _⟩
                      · refine ⟨?_, fun z z1 z2 => ?_⟩
                        · rcases s3 with h | h <;> omega
                        · refine (s8 z (by omega) ?_).trans (hA1n z (by omega))
                          rcases s3 with h | h
                          · rw [h.1]
                            rcases hx.rl.ed with u | u <;> omega
                          · omega)
                · refine r_new 96 dX0_road_93 rfl sN_X0_147 dv_3 (by decide) (by decide) (fun hlt hwb => ?_)
                  refine r_dup 97 dX0_road_96 rfl rfl ?_
                  refine r_aload_n 98 dX0_road_97 rfl rfl lo0 ?_
                  refine r_iload 100 dX0_road_98 rfl lo6 ?_
                  refine r_iload_n 101 dX0_road_100 rfl rfl lo2 ?_
                  refine r_iload_n 102 dX0_road_101 rfl rfl lo3 ?_
                  refine r_iload 104 dX0_road_102 rfl lo4 ?_
                  refine r_iload 106 dX0_road_104 rfl lo5 ?_
                  refine rx_I6v 109 dX0_road_106 rfl sI_X0_149 (by rfl) (ev_X6_init (kd := 0) hp_new_s (by decide) hwb) (fun A1 hP => ?_)
                  obtain ⟨p1, p2, p3⟩ := hP
                  have hk0 : kd = 0 := by omega
                  subst hk0
                  refine r_goto 152 dX0_road_109 (by decide) ?_
                  have hb21 : wb w + 21 = mb w := rfl
                  have hA1n : ∀ z, z ≠ A.2 → A1.1 z = A.1 z := fun z hz => (p3 z hz).trans (hp_new_n hz)
                  have hA12 : A1.2 = A.2 + 1 := p2
                  obtain ⟨cr, pr, gr, r1, r2, r3, r4, r5⟩ := hx.rl
                  refine rx_F1x 157 dX0_road_152 rfl sF_X0_97_7 ((hA1n _ (by omega)).trans r1) (by rfl) (ev_J2_add (cap := pr) (g := gr) ((hA1n _ (by omega)).trans r1) ((hA1n _ (by have := hlt _ _ r2; omega)).trans r2) hx.2.2.2.2.2.1.2.1 (by omega) p1 (caR (kd := 0) (by decide)) (by decide) (by omega) (by rcases r3 with h | h <;> omega) (r3.imp (fun h => ⟨dyn_wb h.1, by omega⟩) (fun h => ⟨h.1, h.2.1, by omega, h.2.2⟩))) (fun A2 hP => ?_)
                  obtain ⟨e', cap', g', s1, s2, s3, s4, s5, s6, s7, s8⟩ := hP
                  refine r_pop 158 dX0_road_157 rfl rfl ?_
                  refine r_iload 160 dX0_road_158 rfl lo6 ?_
                  exact r_iret dX0_road_160 rfl (by decide) (by decide) (by
                    have e : sp_road S (nI 0) (nI a) (nI b) (nI bed) (nI len) = (nI S.2.2.1.length, sR S (S.2.2.1 ++ [(0, a, b, bed, len, 0)])) := by
                      unfold sp_road
                      rw [nI_nat (j := 0) (by omega), nI_nat (j := a) (by omega), nI_nat (j := b) (by omega), nI_nat (j := bed) (by omega), nI_nat (j := len) (by omega)]
                      simp [nb_t hc5, nb_t hc13, hc18, hc32, hc45, hc58, hc79]
                    rw [e]
                    have hab : ¬ a = b := fun h => hc18 (by rw [h])
                    have hcap : cap' = 10 := by
                      rcases s3 with h | h
                      · rcases r3 with u | u
                        · rw [h.2.1]; exact u.2
                        · omega
                      · exact h.2.1
                    subst hcap
                    refine ⟨rfl, _, hx.addR (A' := A2) (a0 := A.2) (q := (0, a, b, bed, len, 0)) hlt h22 (Nat.le_refl _) s1 s2 (s3.imp (fun h => ⟨h.1, s4⟩) (fun h => ⟨by omega, by omega⟩)) s6 (fun i hi => (s7 i hi).trans (r5 i hi)) (fun z z1 z2 z3 => (s8 z z1 z2).trans (hA1n z z3)) ((s8 _ (by omega) ?_).trans p1) ⟨⟨Or.inr (hx.ok.1.pos (by omega)), fun p hp => ?_⟩, hx.ok.2.1, hx.ok.2.2.1, by rw [List.length_append]; show S.2.2.1.length + 1 ≤ 10; omega, fun p hp => ?_⟩, ?_⟩
                    · rcases s3 with h | h
                      · rw [h.1]
                        have := hlt _ _ r2
                        omega
                      · omega
                    · rcases List.mem_append.mp hp with h | h
                      · exact hx.ok.1.2 p h
                      · simp at h
                        subst h
                        exact ⟨Nat.zero_le _, fun _ => rfl⟩
                    · rcases List.mem_append.mp hp with h | h
                      · exact hx.ok.2.2.2.2 p h
                      · simp at h
                        subst h
                        exact ⟨(by show 0 ≤ 2; decide), by dsimp only; omega, by dsimp only; omega, hab, by dsimp only; omega, by dsimp only; omega, by dsimp only; omega, Nat.zero_le _⟩
                    · refine ⟨?_, fun z z1 z2 => ?_⟩
                      · rcases s3 with h | h <;> omega
                      · refine (s8 z (by omega) ?_).trans (hA1n z (by omega))
                        rcases s3 with h | h
                        · rw [h.1]
                          rcases hx.rl.ed with u | u <;> omega
                        · omega)
              · refine r_bipush 84 dX0_road_82 rfl bi_m4 ?_
                exact r_iret dX0_road_84 rfl (by decide) (by decide) (by have e : sp_road S kd a b bed len = (-4, S) := by { unfold sp_road; rw [if_neg (fun u => u.elim (fun z => z (nb_t hc5)) (fun u => u.elim (fun z => z (nb_t hc13)) hc18)), if_neg (fun u => u.elim (fun z => z hc32) (fun u => u.elim (fun z => z hc45) (fun z => z hc58))), if_pos hc79] }; rw [e]; exact ⟨rfl, x, hx, Fx.rf⟩)
            · refine r_bipush 63 dX0_road_61 rfl bi_m2 ?_
              exact r_iret dX0_road_63 rfl (by decide) (by decide) (by have e : sp_road S kd a b bed len = (-2, S) := by { unfold sp_road; rw [if_neg (fun u => u.elim (fun z => z (nb_t hc5)) (fun u => u.elim (fun z => z (nb_t hc13)) hc18)), if_pos (by first | exact Or.inl (by rw [hc32]; decide) | exact Or.inr (Or.inl (by rw [hc45]; decide)) | exact Or.inr (Or.inr (by rw [hc58]; decide)))] }; rw [e]; exact ⟨rfl, x, hx, Fx.rf⟩)
      · refine r_iconst 22 dX0_road_21 rfl ic_m1 ?_
        exact r_iret dX0_road_22 rfl (by decide) (by decide) (by have e : sp_road S kd a b bed len = (-1, S) := by { unfold sp_road; rw [if_pos (by first | exact Or.inl (by rw [nb_f hc5]; decide) | exact Or.inr (Or.inl (by rw [nb_f hc13]; decide)) | exact Or.inr (Or.inr hc18))] }; rw [e]; exact ⟨rfl, x, hx, Fx.rf⟩)

