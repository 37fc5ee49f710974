/-! THE CLASS: rowOf, lose -/
set_option maxRecDepth 100000
set_option maxHeartbeats 4000000 in
theorem ev_X0_rowOfX0 {w : WE} {A : Hp} {i : Int32} (hi : i < 0) (hT : TR w) : EvY w mX0_rowOf none 8 3 54 [.int (nI 0), .int i] A noR (thr "java/lang/NegativeArraySizeException" A 3) := by
  refine EvY.mk 0 [some (.int (nI 0)), some (.int i)] rfl plX0 (Nat.le_of_ble_eq_true rfl) ?_
  refine r_iload_n 1 dX0_rowOf_0 rfl rfl lo0 ?_
  refine r_if_ne 10 4 dX0_rowOf_1 rfl rfl (fun h => absurd rfl h) (fun _ => ?_)
  refine r_iload_n 5 dX0_rowOf_4 rfl rfl lo1 ?_
  exact r_newX dX0_rowOf_5 hi hT rfl (rt_out (lw_all_tbl q647) ⟨rfl, rfl⟩)

set_option maxHeartbeats 4000000 in
theorem ev_X0_rowOf0 {w : WE} {A : Hp} {N : Nat} (hN : N ≤ 60) : EvY w mX0_rowOf none 8 3 60 [.int (nI 0), .int (nI N)] A (fun v A' => v = some (.ref A.2) ∧ A' = hp_new A (eI w 1 N (fun _ => 0))) noT := by
  refine EvY.mk 0 [some (.int (nI 0)), some (.int (nI N))] rfl plX0 (Nat.le_of_ble_eq_true rfl) ?_
  refine r_iload_n 1 dX0_rowOf_0 rfl rfl lo0 ?_
  refine r_if_ne 10 4 dX0_rowOf_1 rfl rfl (fun h => absurd rfl h) (fun _ => ?_)
  refine r_iload_n 5 dX0_rowOf_4 rfl rfl lo1 ?_
  refine r_newI (t := 1) (N := N) 7 dX0_rowOf_5 rfl rfl q631 rfl (fun U cA h => h) rfl rfl (by omega) (by decide) (by decide) (by show 0 + N ≤ 60; omega) (fun hlt hwb => ?_)
  refine r_goto 24 dX0_rowOf_7 rfl ?_
  exact r_ok (r_aret dX0_rowOf_24 rfl (Or.inl ⟨_, rfl⟩) (Or.inr ⟨_, rfl⟩) (by decide) (by show 0 + N ≤ 60; omega) ⟨rfl, rfl⟩)

set_option maxHeartbeats 4000000 in
theorem ev_X0_rowOfX1 {w : WE} {A : Hp} {i : Int32} (hi : i < 0) (hT : TR w) : EvY w mX0_rowOf none 8 3 54 [.int (nI 1), .int i] A noR (thr "java/lang/NegativeArraySizeException" A 3) := by
  refine EvY.mk 0 [some (.int (nI 1)), some (.int i)] rfl plX0 (Nat.le_of_ble_eq_true rfl) ?_
  refine r_iload_n 1 dX0_rowOf_0 rfl rfl lo0 ?_
  refine r_if_ne 10 4 dX0_rowOf_1 rfl rfl (fun _ => ?_) (fun h => absurd h (by decide))
  refine r_iload_n 11 dX0_rowOf_10 rfl rfl lo0 ?_
  refine r_iconst 12 dX0_rowOf_11 rfl ic_1 ?_
  refine r_icmp_ne 21 15 dX0_rowOf_12 rfl rfl (fun h => absurd rfl h) (fun _ => ?_)
  refine r_iload_n 16 dX0_rowOf_15 rfl rfl lo1 ?_
  exact r_newX dX0_rowOf_16 hi hT rfl (rt_out (lw_all_tbl q647) ⟨rfl, rfl⟩)

set_option maxHeartbeats 4000000 in
theorem ev_X0_rowOf1 {w : WE} {A : Hp} {N : Nat} (hN : N ≤ 60) : EvY w mX0_rowOf none 8 3 60 [.int (nI 1), .int (nI N)] A (fun v A' => v = some (.ref A.2) ∧ A' = hp_new A (eI w 2 N (fun _ => 0))) noT := by
  refine EvY.mk 0 [some (.int (nI 1)), some (.int (nI N))] rfl plX0 (Nat.le_of_ble_eq_true rfl) ?_
  refine r_iload_n 1 dX0_rowOf_0 rfl rfl lo0 ?_
  refine r_if_ne 10 4 dX0_rowOf_1 rfl rfl (fun _ => ?_) (fun h => absurd h (by decide))
  refine r_iload_n 11 dX0_rowOf_10 rfl rfl lo0 ?_
  refine r_iconst 12 dX0_rowOf_11 rfl ic_1 ?_
  refine r_icmp_ne 21 15 dX0_rowOf_12 rfl rfl (fun h => absurd rfl h) (fun _ => ?_)
  refine r_iload_n 16 dX0_rowOf_15 rfl rfl lo1 ?_
  refine r_newI (t := 2) (N := N) 18 dX0_rowOf_16 rfl rfl q657 rfl (fun U cA h => h) rfl rfl (by omega) (by decide) (by decide) (by show 0 + N ≤ 60; omega) (fun hlt hwb => ?_)
  refine r_goto 24 dX0_rowOf_18 rfl ?_
  exact r_ok (r_aret dX0_rowOf_24 rfl (Or.inl ⟨_, rfl⟩) (Or.inr ⟨_, rfl⟩) (by decide) (by show 0 + N ≤ 60; omega) ⟨rfl, rfl⟩)

set_option maxHeartbeats 4000000 in
theorem ev_X0_rowOfX2 {w : WE} {A : Hp} {i : Int32} (hi : i < 0) (hT : TR w) : EvY w mX0_rowOf none 8 3 54 [.int (nI 2), .int i] A noR (thr "java/lang/NegativeArraySizeException" A 3) := by
  refine EvY.mk 0 [some (.int (nI 2)), some (.int i)] rfl plX0 (Nat.le_of_ble_eq_true rfl) ?_
  refine r_iload_n 1 dX0_rowOf_0 rfl rfl lo0 ?_
  refine r_if_ne 10 4 dX0_rowOf_1 rfl rfl (fun _ => ?_) (fun h => absurd h (by decide))
  refine r_iload_n 11 dX0_rowOf_10 rfl rfl lo0 ?_
  refine r_iconst 12 dX0_rowOf_11 rfl ic_1 ?_
  refine r_icmp_ne 21 15 dX0_rowOf_12 rfl rfl (fun _ => ?_) (fun h => absurd h (by decide))
  refine r_iload_n 22 dX0_rowOf_21 rfl rfl lo1 ?_
  exact r_newX dX0_rowOf_22 hi hT rfl (rt_out (lw_all_tbl q647) ⟨rfl, rfl⟩)

set_option maxHeartbeats 4000000 in
theorem ev_X0_rowOf2 {w : WE} {A : Hp} {N : Nat} (hN : N ≤ 60) : EvY w mX0_rowOf none 8 3 60 [.int (nI 2), .int (nI N)] A (fun v A' => v = some (.ref A.2) ∧ A' = hp_new A (eI w 0 N (fun _ => 0))) noT := by
  refine EvY.mk 0 [some (.int (nI 2)), some (.int (nI N))] rfl plX0 (Nat.le_of_ble_eq_true rfl) ?_
  refine r_iload_n 1 dX0_rowOf_0 rfl rfl lo0 ?_
  refine r_if_ne 10 4 dX0_rowOf_1 rfl rfl (fun _ => ?_) (fun h => absurd h (by decide))
  refine r_iload_n 11 dX0_rowOf_10 rfl rfl lo0 ?_
  refine r_iconst 12 dX0_rowOf_11 rfl ic_1 ?_
  refine r_icmp_ne 21 15 dX0_rowOf_12 rfl rfl (fun _ => ?_) (fun h => absurd h (by decide))
  refine r_iload_n 22 dX0_rowOf_21 rfl rfl lo1 ?_
  refine r_newI (t := 0) (N := N) 24 dX0_rowOf_22 rfl rfl q166 rfl (fun U cA h => h) rfl rfl (by omega) (by decide) (by decide) (by show 0 + N ≤ 60; omega) (fun hlt hwb => ?_)
  exact r_ok (r_aret dX0_rowOf_24 rfl (Or.inl ⟨_, rfl⟩) (Or.inr ⟨_, rfl⟩) (by decide) (by show 0 + N ≤ 60; omega) ⟨rfl, rfl⟩)

/-- another sheet in a place -/
theorem XS.sh20 {w : WE} {A : Hp} {x : XT} {S : ST} {k : Nat} {op : Option (Nat × Nat)} {os : Option Sh} (h : XS w A x S) (hk : k < 4) (ho : (os = Option.none ∧ op = Option.none) ∨ ∃ (q : Sh) (p : Nat × Nat) (f : Nat → Int32), os = Option.some q ∧ op = Option.some p ∧ q.1 ≤ 2 ∧ q.2.1 ≤ 60 ∧ dyn w p.1 ∧ dyn w p.2 ∧ A.1 p.1 = Option.some (.inr (6, [.ref p.2])) ∧ A.1 p.2 = Option.some (eI w (ln q.1) q.2.1 f) ∧ ∀ i, i < q.2.1 → f i = q.2.2 i)
    (hne : ∀ j p p', j < 4 → j ≠ k → x.2.2.2.2.2 j = Option.some p' → op = Option.some p → p'.2 ≠ p.2) : XS w (hp_up A (wb w + 20) (eR w 4 4 (va_up (fun k => (x.2.2.2.2.2 k).map (fun p => p.1)) k (op.map (fun p => p.1))))) (x.1, x.2.1, x.2.2.1, x.2.2.2.1, x.2.2.2.2.1, va_up x.2.2.2.2.2 k op) (sH S k os) := by
  have hb : wb w + 21 = mb w := rfl
  have hkp : ∀ z, z ≠ wb w + 20 → Kp A (hp_up A (wb w + 20) (eR w 4 4 (va_up (fun k => (x.2.2.2.2.2 k).map (fun p => p.1)) k (op.map (fun p => p.1))))) z := fun z hz e he => (hp_up_n hz).trans he
  obtain ⟨⟨a1, a2, a3⟩, ⟨b1, b2⟩, ⟨c1, c2⟩, d, e, ⟨f1, f2, f3⟩, g⟩ := h
  have hdy : ∀ {z : Nat} {en : va_E}, dyn w z → A.1 z = Option.some en → (hp_up A (wb w + 20) (eR w 4 4 (va_up (fun k => (x.2.2.2.2.2 k).map (fun p => p.1)) k (op.map (fun p => p.1))))).1 z = Option.some en := fun {z en} hd hz => hkp z (by omega) _ hz
  refine ⟨⟨hkp _ (by omega) _ a1, fun m hm => hkp _ (by rcases hm with h | h <;> omega) _ (a2 m hm), hkp _ (by omega) _ a3⟩, ⟨b1.keep (hkp _ (by omega)) (hkp _ (by rcases b1.ed with u | u <;> omega)), fun i r hr => ⟨(b2 i r hr).1, hdy (b2 i r hr).1 (b2 i r hr).2⟩⟩, ⟨c1.keep (hkp _ (by omega)) (hkp _ (by rcases c1.ed with u | u <;> omega)), fun i r hr => ⟨(c2 i r hr).1, hdy (c2 i r hr).1 (c2 i r hr).2⟩⟩, ⟨?_, fun i hi => ?_, fun j i p p' hj hi hji hp hp' => ?_⟩, e, ⟨(hp_up_n (by omega)).trans f1, f2, f3⟩, ⟨⟨g.1.1, g.1.2⟩, g.2⟩⟩
  · rw [hp_up_s]
    congr 5
    funext i
    by_cases e1 : i = k
    · subst e1
      simp [va_up]
    · simp [va_up, e1]
  · by_cases e1 : i = k
    · subst e1
      have s1 : (sH S i os).2.2.2.2.2 i = os := by simp [va_up]
      have s2 : va_up x.2.2.2.2.2 i op i = op := by simp [va_up]
      rw [s1]
      show (os = Option.none ∧ va_up x.2.2.2.2.2 i op i = Option.none) ∨ _
      rcases ho with ⟨o1, o2⟩ | ⟨q', p', f', h1, h2, h3, h4, h5, h6, h7, h8, h9⟩
      · exact Or.inl ⟨o1, s2.trans o2⟩
      · exact Or.inr ⟨q', p', f', h1, s2.trans h2, h3, h4, h5, h6, hdy h5 h7, hdy h6 h8, h9⟩
    · have s1 : (sH S k os).2.2.2.2.2 i = S.2.2.2.2.2 i := by simp [va_up, e1]
      have s2 : va_up x.2.2.2.2.2 k op i = x.2.2.2.2.2 i := by simp [va_up, e1]
      rw [s1]
      show (S.2.2.2.2.2 i = Option.none ∧ va_up x.2.2.2.2.2 k op i = Option.none) ∨ _
      rcases d.2.1 i hi with ⟨o1, o2⟩ | ⟨q', p', f', h1, h2, h3, h4, h5, h6, h7, h8, h9⟩
      · exact Or.inl ⟨o1, s2.trans o2⟩
      · exact Or.inr ⟨q', p', f', h1, s2.trans h2, h3, h4, h5, h6, hdy h5 h7, hdy h6 h8, h9⟩
  · replace hp : va_up x.2.2.2.2.2 k op j = Option.some p := hp
    replace hp' : va_up x.2.2.2.2.2 k op i = Option.some p' := hp'
    by_cases e1 : j = k
    · subst e1
      have e2 : i ≠ j := fun h => hji h.symm
      simp [va_up] at hp
      simp [va_up, e2] at hp'
      exact (hne i p p' hi e2 hp' hp).symm
    · simp [va_up, e1] at hp
      by_cases e2 : i = k
      · subst e2
        simp [va_up] at hp'
        exact hne j p' p hj e1 hp hp'
      · simp [va_up, e2] at hp'
        exact d.2.2 j i p p' hj hi hji hp hp'

set_option maxHeartbeats 4000000 in
theorem ev_X0_lose {w : WE} {A : Hp} {x : XT} {S : ST} {kx : Int32} (hx : XS w A x S) : EvP w mX0_lose 2 0 0 [.ref (wb w), .int kx] A (some (.int (sp_lose S kx).1)) (fun A' => ∃ x' : XT, XS w A' x' (sp_lose S kx).2 ∧ Fx w A A') := by
  refine Ev.mk 1 [some (.ref (wb w)), some (.int kx), none] rfl plX0 (Nat.le_of_ble_eq_true rfl) ?_
  refine r_iload_n 1 dX0_lose_0 rfl rfl lo1 ?_
  refine r_cS1 4 dX0_lose_1 rfl sS_X0_256 (by rfl) ev_X0_noSheet ?_
  refine r_if_eqB 9 7 dX0_lose_4 rfl rfl (fun hc => ?_) (fun hc => ?_)
  rotate_left
  · refine r_iconst 8 dX0_lose_7 rfl ic_m1 ?_
    refine r_iret dX0_lose_8 rfl (by decide) (by decide) ?_
    have e : sp_lose S kx = (-1, S) := by
      unfold sp_lose
      rw [if_neg (by rw [nb_f hc]; decide)]
    rw [e]
    exact ⟨rfl, x, hx, Fx.rf⟩
  have hb : btw kx.toInt 0 3 = true := nb_t hc
  obtain ⟨kk, hk4, rfl⟩ := sheet_ok hb
  have hm : mb w = wb w + 21 := rfl
  refine r_aload_n 10 dX0_lose_9 rfl rfl lo0 ?_
  refine r_get 13 dX0_lose_10 rfl g_X0_57_0 hx.t rfl ?_
  refine r_iload_n 14 dX0_lose_13 rfl rfl lo1 ?_
  have hfin : ∀ v, v = bI (S.2.2.2.2.2 kk).isSome → Rn w mX0_lose (rmX 2 0 0) (ZX w (fun v A' => v = some (.int (sp_lose S (nI kk)).1) ∧ (fun A' => ∃ x' : XT, XS w A' x' (sp_lose S (nI kk)).2 ∧ Fx w A A') A') 0 0) 0 0 A 23 [some (.ref (wb w)), some (.int (nI kk)), none] [.int v] := by
    intro v hv
    have e : sp_lose S (nI kk) = (bI (S.2.2.2.2.2 kk).isSome, sH S kk none) := by
      unfold sp_lose
      rw [if_pos hb, nI_nat (j := kk) (by omega)]
    refine r_istore_n 24 dX0_lose_23 rfl rfl rfl (by rfl) ?_
    refine r_aload_n 25 dX0_lose_24 rfl rfl lo0 ?_
    refine r_get 28 dX0_lose_25 rfl g_X0_57_0 hx.t rfl ?_
    refine r_iload_n 29 dX0_lose_28 rfl rfl lo1 ?_
    refine r_null 30 dX0_lose_29 rfl ?_
    refine r_aastN 31 dX0_lose_30 rfl rfl hx.sh.1 (by omega) kk rfl hk4 (by decide) ?_
    refine r_iload_n 32 dX0_lose_31 rfl rfl lo2 ?_
    refine r_iret dX0_lose_32 rfl (by decide) (by decide) ?_
    rw [e, hv]
    exact ⟨rfl, _, hx.sh20 (op := none) hk4 (Or.inl ⟨rfl, rfl⟩) (fun _ _ _ _ _ _ h => by cases h), Fx.up (Or.inl (by omega))⟩
  cases hq : S.2.2.2.2.2 kk with
  | none =>
    refine r_aaldN 15 dX0_lose_14 rfl rfl rfl hx.sh.1 kk rfl hk4 (by decide) (hx.none hk4 hq) ?_
    refine r_ifnonnullN 18 dX0_lose_15 rfl ?_
    refine r_iconst 19 dX0_lose_18 rfl ic_0 ?_
    refine r_goto 23 dX0_lose_19 rfl ?_
    exact hfin _ (by rw [hq]; rfl)
  | some q =>
    obtain ⟨p, f, hp, -⟩ := hx.some hk4 hq
    refine r_aaldT 15 dX0_lose_14 rfl rfl rfl hx.sh.1 kk rfl hk4 (by decide) (v := p.1) (by show Option.map _ _ = _; rw [hp]; rfl) ?_
    refine r_ifnonnull 22 dX0_lose_15 rfl ?_
    refine r_iconst 23 dX0_lose_22 rfl ic_1 ?_
    exact hfin _ (by rw [hq]; rfl)

