/-! LISTS: java.util.ArrayList -/
set_option maxRecDepth 100000
/-- a list's fields: how often it changed, its row, its size -/
abbrev alF (c : Int32) (e n : Nat) : List Value := [.int c, .ref e, .int (nI n)]
/-- the row of a list that never had a member -/
abbrev de (w : WE) : Nat := w.2.2.2.2 1
abbrev KD (w : WE) : Prop := KZ w "java/util/ArrayList" "DEFAULTCAPACITY_EMPTY_ELEMENTDATA" "[Ljava/lang/Object;" (.ref (de w))
theorem ne_io {A : Hp} {a e : Nat} {x : Nat × List Value} {y : ClassId × vp_A} (h1 : A.1 a = some (.inr x)) (h2 : A.1 e = some (.inl y)) : a ≠ e := fun h => by
  rw [h, h2] at h1
  cases h1
theorem ne_oo {A : Hp} {a e c d : Nat} {x y : List Value} (h1 : A.1 a = some (.inr (c, x))) (h2 : A.1 e = some (.inr (d, y))) (h : c ≠ d) : a ≠ e := fun q => by
  rw [q, h2] at h1
  cases h1
  exact h rfl
set_option maxHeartbeats 4000000 in
theorem ev_J2_size {w : WE} {A : Hp} {a e n : Nat} {c : Int32} (hA : A.1 a = some (.inr (7, alF c e n))) : EvI w mJ2_size 0 [.ref a] A (nI n) := by
  refine Ev.mk 0 [some (.ref a)] rfl plJ2 (Nat.le_of_ble_eq_true rfl) ?_
  refine r_aload_n 1 dJ2_size_0 rfl rfl lo0 ?_
  refine r_get 4 dJ2_size_1 rfl g_J2_48_7 hA lo2 ?_
  exact r_iret dJ2_size_4 rfl (Nat.le_refl _) (Nat.le_refl _) ⟨rfl, rfl⟩

set_option maxHeartbeats 4000000 in
theorem ev_J2_isEmpty {w : WE} {A : Hp} {a e n : Nat} {c : Int32} (hA : A.1 a = some (.inr (7, alF c e n))) (hn : n < 2 ^ 31) : EvI w mJ2_isEmpty 0 [.ref a] A (bI (decide (n = 0))) := by
  refine Ev.mk 0 [some (.ref a)] rfl plJ2 (Nat.le_of_ble_eq_true rfl) ?_
  refine r_aload_n 1 dJ2_isEmpty_0 rfl rfl lo0 ?_
  refine r_get 4 dJ2_isEmpty_1 rfl g_J2_48_7 hA lo2 ?_
  first | refine r_if_neN 11 7 dJ2_isEmpty_4 rfl (by decide) (by omega) (fun hc4 => ?_) (fun hc4 => ?_) | refine r_if_ne 11 7 dJ2_isEmpty_4 rfl (by decide) (fun hc4 => ?_) (fun hc4 => ?_)
  · refine r_iconst 12 dJ2_isEmpty_11 rfl ic_0 ?_
    exact r_zret dJ2_isEmpty_12 rfl (by first | exact nb_b _ | exact nb_0 | exact nb_1) (Nat.le_refl _) (Nat.le_refl _) (rv (by first | exact (bd_t _ hc4).symm | exact (bd_f _ hc4).symm))
  · refine r_iconst 8 dJ2_isEmpty_7 rfl ic_1 ?_
    refine r_goto 12 dJ2_isEmpty_8 (by decide) ?_
    exact r_zret dJ2_isEmpty_12 rfl (by first | exact nb_b _ | exact nb_0 | exact nb_1) (Nat.le_refl _) (Nat.le_refl _) (rv (by first | exact (bd_t _ hc4).symm | exact (bd_f _ hc4).symm))

set_option maxHeartbeats 4000000 in
theorem ev_J15_checkIndex {w : WE} {A : Hp} {i n : Nat} (hi : i < n) (hn : n < 2 ^ 31) : EvI w mJ15_checkIndex 0 [.int (nI i), .int (nI n), .null] A (nI i) := by
  refine Ev.mk 0 [some (.int (nI i)), some (.int (nI n)), some .null] rfl plJ15 (Nat.le_of_ble_eq_true rfl) ?_
  refine r_iload_n 1 dJ15_checkIndex_0 rfl rfl lo0 ?_
  first | refine r_if_ltN 9 4 dJ15_checkIndex_1 rfl (by decide) (by omega) (fun hc1 => ?_) (fun hc1 => ?_) | refine r_if_lt 9 4 dJ15_checkIndex_1 rfl (by decide) (fun hc1 => ?_) (fun hc1 => ?_)
  · exact absurd hc1 (by omega)
  · refine r_iload_n 5 dJ15_checkIndex_4 rfl rfl lo0 ?_
    refine r_iload_n 6 dJ15_checkIndex_5 rfl rfl lo1 ?_
    first | refine r_icmp_ltN 16 9 dJ15_checkIndex_6 rfl (by decide) (by omega) (by omega) (fun hc6 => ?_) (fun hc6 => ?_) | refine r_icmp_lt 16 9 dJ15_checkIndex_6 rfl (by decide) (fun hc6 => ?_) (fun hc6 => ?_)
    · refine r_iload_n 17 dJ15_checkIndex_16 rfl rfl lo0 ?_
      exact r_iret dJ15_checkIndex_17 rfl (Nat.le_refl _) (Nat.le_refl _) ⟨rfl, rfl⟩
    · exact absurd hc6 (by omega)

set_option maxHeartbeats 4000000 in
theorem ev_J14_checkIndex {w : WE} {A : Hp} {i n : Nat} (hi : i < n) (hn : n < 2 ^ 31) : EvI w mJ14_checkIndex 1 [.int (nI i), .int (nI n)] A (nI i) := by
  refine Ev.mk 0 [some (.int (nI i)), some (.int (nI n))] rfl plJ14 (Nat.le_of_ble_eq_true rfl) ?_
  refine r_iload_n 1 dJ14_checkIndex_0 rfl rfl lo0 ?_
  refine r_iload_n 2 dJ14_checkIndex_1 rfl rfl lo1 ?_
  refine r_null 3 dJ14_checkIndex_2 rfl ?_
  refine r_cS3 6 dJ14_checkIndex_3 rfl sS_J14_105 (by rfl) (ev_J15_checkIndex hi hn) ?_
  exact r_iret dJ14_checkIndex_6 rfl (Nat.le_refl _) (Nat.le_refl _) ⟨rfl, rfl⟩

set_option maxHeartbeats 4000000 in
theorem ev_J2_elementData {w : WE} {A : Hp} {a e n cap i v : Nat} {g : Nat → Option Nat} {c : Int32} (hA : A.1 a = some (.inr (7, alF c e n))) (hE : A.1 e = some (eR w 5 cap g)) (hi : i < cap) (hc : cap < 2 ^ 31) (hv : g i = some v) : EvV w mJ2_elementData 0 [.ref a, .int (nI i)] A (.ref v) := by
  refine Ev.mk 0 [some (.ref a), some (.int (nI i))] rfl plJ2 (Nat.le_of_ble_eq_true rfl) ?_
  refine r_aload_n 1 dJ2_elementData_0 rfl rfl lo0 ?_
  refine r_get 4 dJ2_elementData_1 rfl g_J2_9_7 hA lo1 ?_
  refine r_iload_n 5 dJ2_elementData_4 rfl rfl lo1 ?_
  refine r_aaldT (t := 5) 6 dJ2_elementData_5 rfl rfl rfl hE i rfl hi hc hv ?_
  exact r_aret dJ2_elementData_6 rfl (Or.inl ⟨_, rfl⟩) (Or.inr ⟨_, rfl⟩) (Nat.le_refl _) (Nat.le_refl _) ⟨rfl, rfl⟩

set_option maxHeartbeats 4000000 in
theorem ev_J2_get {w : WE} {A : Hp} {a e n cap i v : Nat} {g : Nat → Option Nat} {c : Int32} (hA : A.1 a = some (.inr (7, alF c e n))) (hE : A.1 e = some (eR w 5 cap g)) (hi : i < n) (hnc : n ≤ cap) (hc : cap < 2 ^ 31) (hv : g i = some v) : EvV w mJ2_get 2 [.ref a, .int (nI i)] A (.ref v) := by
  refine Ev.mk 0 [some (.ref a), some (.int (nI i))] rfl plJ2 (Nat.le_of_ble_eq_true rfl) ?_
  refine r_iload_n 1 dJ2_get_0 rfl rfl lo1 ?_
  refine r_aload_n 2 dJ2_get_1 rfl rfl lo0 ?_
  refine r_get 5 dJ2_get_2 rfl g_J2_48_7 hA lo2 ?_
  refine r_cS2 8 dJ2_get_5 rfl sS_J2_118 (by rfl) (ev_J14_checkIndex hi (by omega)) ?_
  refine r_pop 9 dJ2_get_8 rfl rfl ?_
  refine r_aload_n 10 dJ2_get_9 rfl rfl lo0 ?_
  refine r_iload_n 11 dJ2_get_10 rfl rfl lo1 ?_
  refine r_cV1 14 dJ2_get_11 rfl sV_J2_123_7 hA (by rfl) (ev_J2_elementData hA hE (by omega) hc hv) ?_
  exact r_aret dJ2_get_14 rfl (Or.inl ⟨_, rfl⟩) (Or.inr ⟨_, rfl⟩) (Nat.le_refl _) (Nat.le_refl _) ⟨rfl, rfl⟩

set_option maxHeartbeats 4000000 in
theorem ev_J2_grow_2 {w : WE} {A : Hp} {a n m : Nat} {c : Int32} (hA : A.1 a = some (.inr (7, alF c (de w) n))) (hE : A.1 (de w) = some (eR w 5 0 (fun _ => none))) (hD : KD w) (hba : wb w ≤ a) (hm : m ≤ 10) : EvP w mJ2_grow_2 1 1 10 [.ref a, .int (nI m)] A (some (.ref A.2)) (fun A' => A' = hp_up (hp_new A (eR w 5 10 (fun _ => none))) a (.inr (7, alF c A.2 n))) := by
  refine Ev.mk 2 [some (.ref a), some (.int (nI m)), none, none] rfl plJ2 (Nat.le_of_ble_eq_true rfl) ?_
  refine r_aload_n 1 dJ2_grow_2_0 rfl rfl lo0 ?_
  refine r_get 4 dJ2_grow_2_1 rfl g_J2_9_7 hA lo1 ?_
  refine r_alen (t := 5) 5 dJ2_grow_2_4 rfl rfl hE ?_
  refine r_istore_n 6 dJ2_grow_2_5 rfl rfl so2 rfl ?_
  refine r_iload_n 7 dJ2_grow_2_6 rfl rfl lo2 ?_
  first | refine r_if_gtN 20 10 dJ2_grow_2_7 rfl (by decide) (by omega) (fun hc7 => ?_) (fun hc7 => ?_) | refine r_if_gt 20 10 dJ2_grow_2_7 rfl (by decide) (fun hc7 => ?_) (fun hc7 => ?_)
  · exact absurd hc7 (by decide)
  · refine r_aload_n 11 dJ2_grow_2_10 rfl rfl lo0 ?_
    refine r_get 14 dJ2_grow_2_11 rfl g_J2_9_7 hA lo1 ?_
    refine r_gets 17 dJ2_grow_2_14 rfl q103 hD ?_
    refine r_acmp_eq 45 20 dJ2_grow_2_17 rfl (by decide) (fun hc17 => ?_) (fun hc17 => ?_)
    · refine r_aload_n 46 dJ2_grow_2_45 rfl rfl lo0 ?_
      refine r_bipush 48 dJ2_grow_2_46 rfl bi_10 ?_
      refine r_iload_n 49 dJ2_grow_2_48 rfl rfl lo1 ?_
      refine r_mmaxN 52 dJ2_grow_2_49 rfl q397 (by rfl) (by omega) (by omega) ?_
      rw [Nat.max_eq_left hm]
      refine r_anew (t := 5) (N := 10) 55 dJ2_grow_2_52 rfl q398 q391 rfl rfl (by decide) (by decide) (by decide) (fun hlt hwb => ?_)
      refine r_dup_x1 56 dJ2_grow_2_55 rfl rfl rfl ?_
      refine r_put 59 dJ2_grow_2_56 rfl g_J2_9_7 cw_7 fw_7_1 ((hp_new_n (Nat.ne_of_lt (hlt _ _ hA))).trans hA) hba so1 (Nat.le_of_ble_eq_true rfl) rfl rfl ?_
      exact r_aret dJ2_grow_2_59 rfl (Or.inr ⟨_, rfl⟩) (Or.inr ⟨_, rfl⟩) (Nat.le_refl _) (Nat.le_refl _) ⟨rfl, rfl⟩
    · exact absurd rfl hc17

set_option maxHeartbeats 4000000 in
theorem ev_J2_grow {w : WE} {A : Hp} {a n : Nat} {c : Int32} (hA : A.1 a = some (.inr (7, alF c (de w) n))) (hE : A.1 (de w) = some (eR w 5 0 (fun _ => none))) (hD : KD w) (hba : wb w ≤ a) (hm : n + 1 ≤ 10) : EvP w mJ2_grow 2 1 10 [.ref a] A (some (.ref A.2)) (fun A' => A' = hp_up (hp_new A (eR w 5 10 (fun _ => none))) a (.inr (7, alF c A.2 n))) := by
  refine Ev.mk 0 [some (.ref a)] rfl plJ2 (Nat.le_of_ble_eq_true rfl) ?_
  refine r_aload_n 1 dJ2_grow_0 rfl rfl lo0 ?_
  refine r_aload_n 2 dJ2_grow_1 rfl rfl lo0 ?_
  refine r_get 5 dJ2_grow_2 rfl g_J2_48_7 hA lo2 ?_
  refine r_iconst 6 dJ2_grow_5 rfl ic_1 ?_
  first | refine r_iaddN 7 dJ2_grow_6 rfl ?_ | refine r_iadd 7 dJ2_grow_6 rfl ?_
  refine rx_V1x 10 dJ2_grow_7 rfl sV_J2_69_7 hA (by rfl) (ev_J2_grow_2 hA hE hD hba hm) (fun A hP => ?_)
  subst hP
  exact r_aret dJ2_grow_10 rfl (Or.inr ⟨_, rfl⟩) (Or.inr ⟨_, rfl⟩) (Nat.le_refl _) (Nat.le_refl _) ⟨rfl, rfl⟩

set_option maxHeartbeats 4000000 in
theorem ev_J2_add_2 {w : WE} {A : Hp} {a e n cap v ci : Nat} {g : Nat → Option Nat} {c : Int32} {fs : List Value} (hA : A.1 a = some (.inr (7, alF c e n))) (hE : A.1 e = some (eR w 5 cap g)) (hD : KD w) (hba : wb w ≤ a) (hv : A.1 v = some (.inr (ci, fs))) (S : CaO ci "java/lang/Object") (h7 : ci ≠ 7) (hn : n ≤ 9) (hcp : cap ≤ 10) (hdy : (wb w ≤ e ∧ n < cap) ∨ (e = de w ∧ cap = 0 ∧ n = 0 ∧ g = fun _ => none)) : EvP w mJ2_add_2 3 1 10 [.ref a, .ref v, .ref e, .int (nI n)] A none (fun A' => ∃ (e' cap' : Nat) (g' : Nat → Option Nat), A'.1 a = some (.inr (7, alF c e' (n + 1))) ∧ A'.1 e' = some (eR w 5 cap' g') ∧ ((e' = e ∧ cap' = cap ∧ A'.2 = A.2) ∨ (e' = A.2 ∧ cap' = 10 ∧ A'.2 = A.2 + 1)) ∧ wb w ≤ e' ∧ n < cap' ∧ g' n = some v ∧ (∀ i, i < n → g' i = g i) ∧ (∀ q, q ≠ a → q ≠ e' → A'.1 q = A.1 q)) := by
  refine Ev.mk 0 [some (.ref a), some (.ref v), some (.ref e), some (.int (nI n))] rfl plJ2 (Nat.le_of_ble_eq_true rfl) ?_
  rcases hdy with ⟨hbe, hc⟩ | ⟨rfl, rfl, rfl, rfl⟩
  · have hne := ne_io hA hE
    refine r_iload_n 1 dJ2_add_2_0 rfl rfl lo3 ?_
    refine r_aload_n 2 dJ2_add_2_1 rfl rfl lo2 ?_
    refine r_alen (t := 5) 3 dJ2_add_2_2 rfl rfl hE ?_
    first | refine r_icmp_neN 11 6 dJ2_add_2_3 rfl (by decide) (by omega) (by omega) (fun hc3 => ?_) (fun hc3 => ?_) | refine r_icmp_ne 11 6 dJ2_add_2_3 rfl (by decide) (fun hc3 => ?_) (fun hc3 => ?_)
    · refine r_aload_n 12 dJ2_add_2_11 rfl rfl lo2 ?_
      refine r_iload_n 13 dJ2_add_2_12 rfl rfl lo3 ?_
      refine r_aload_n 14 dJ2_add_2_13 rfl rfl lo1 ?_
      refine r_aastO (t := 5) (N := cap) 15 dJ2_add_2_14 rfl rfl S hE hv hbe n rfl (by omega) (by omega) ?_
      refine r_aload_n 16 dJ2_add_2_15 rfl rfl lo0 ?_
      refine r_iload_n 17 dJ2_add_2_16 rfl rfl lo3 ?_
      refine r_iconst 18 dJ2_add_2_17 rfl ic_1 ?_
      first | refine r_iaddN 19 dJ2_add_2_18 rfl ?_ | refine r_iadd 19 dJ2_add_2_18 rfl ?_
      refine r_put 22 dJ2_add_2_19 rfl g_J2_48_7 cw_7 fw_7_2 ((hp_up_n hne).trans hA) hba so2 (Nat.le_of_ble_eq_true rfl) rfl rfl ?_
      refine r_wide 1 10 (by decide) (by decide) ?_
      exact r_vret dJ2_add_2_22 rfl (Nat.le_refl _) (Nat.le_refl _) ⟨rfl, e, cap, _, hp_up_s, (hp_up_n (Ne.symm hne)).trans hp_up_s, Or.inl ⟨rfl, rfl, rfl⟩, hbe, hc, by simp [va_up], fun i hi => by simp [va_up]; omega, fun q q1 q2 => (hp_up_n q1).trans (hp_up_n q2)⟩
    · exact absurd hc3 (by show ¬ n = cap; omega)
  · skip
    refine r_iload_n 1 dJ2_add_2_0 rfl rfl lo3 ?_
    refine r_aload_n 2 dJ2_add_2_1 rfl rfl lo2 ?_
    refine r_alen (t := 5) 3 dJ2_add_2_2 rfl rfl hE ?_
    first | refine r_icmp_neN 11 6 dJ2_add_2_3 rfl (by decide) (by omega) (by omega) (fun hc3 => ?_) (fun hc3 => ?_) | refine r_icmp_ne 11 6 dJ2_add_2_3 rfl (by decide) (fun hc3 => ?_) (fun hc3 => ?_)
    · exact absurd rfl hc3
    · refine r_fresh (fun hlt hwb => ?_)
      have haz : a ≠ A.2 := Nat.ne_of_lt (hlt _ _ hA)
      have hva : v ≠ a := ne_oo hv hA h7
      refine r_aload_n 7 dJ2_add_2_6 rfl rfl lo0 ?_
      refine rx_V0x 10 dJ2_add_2_7 rfl sV_J2_129_7 hA (by rfl) (ev_J2_grow hA hE hD hba (by decide)) (fun A hP => ?_)
      subst hP
      refine r_astore_n 11 dJ2_add_2_10 rfl rfl so2 rfl ?_
      refine r_aload_n 12 dJ2_add_2_11 rfl rfl lo2 ?_
      refine r_iload_n 13 dJ2_add_2_12 rfl rfl lo3 ?_
      refine r_aload_n 14 dJ2_add_2_13 rfl rfl lo1 ?_
      refine r_aastO (t := 5) (N := 10) 15 dJ2_add_2_14 rfl rfl S ((hp_up_n (Ne.symm haz)).trans hp_new_s) ((hp_up_n hva).trans ((hp_new_n (Nat.ne_of_lt (hlt _ _ hv))).trans hv)) hwb 0 rfl (by decide) (by decide) ?_
      refine r_aload_n 16 dJ2_add_2_15 rfl rfl lo0 ?_
      refine r_iload_n 17 dJ2_add_2_16 rfl rfl lo3 ?_
      refine r_iconst 18 dJ2_add_2_17 rfl ic_1 ?_
      first | refine r_iaddN 19 dJ2_add_2_18 rfl ?_ | refine r_iadd 19 dJ2_add_2_18 rfl ?_
      refine r_put 22 dJ2_add_2_19 rfl g_J2_48_7 cw_7 fw_7_2 ((hp_up_n haz).trans hp_up_s) hba so2 (Nat.le_of_ble_eq_true rfl) rfl rfl ?_
      exact r_vret dJ2_add_2_22 rfl (Nat.le_refl _) (Nat.le_refl _) ⟨rfl, A.2, 10, _, hp_up_s, (hp_up_n (Ne.symm haz)).trans hp_up_s, Or.inr ⟨rfl, rfl, rfl⟩, hwb, by decide, by simp [va_up], fun i hi => absurd hi (Nat.not_lt_zero _), fun q q1 q2 => (hp_up_n q1).trans ((hp_up_n q2).trans ((hp_up_n q1).trans (hp_new_n q2)))⟩

set_option maxHeartbeats 4000000 in
theorem ev_J2_add {w : WE} {A : Hp} {a e n cap v ci : Nat} {g : Nat → Option Nat} {c : Int32} {fs : List Value} (hA : A.1 a = some (.inr (7, alF c e n))) (hE : A.1 e = some (eR w 5 cap g)) (hD : KD w) (hba : wb w ≤ a) (hv : A.1 v = some (.inr (ci, fs))) (S : CaO ci "java/lang/Object") (h7 : ci ≠ 7) (hn : n ≤ 9) (hcp : cap ≤ 10) (hdy : (wb w ≤ e ∧ n < cap) ∨ (e = de w ∧ cap = 0 ∧ n = 0 ∧ g = fun _ => none)) : EvP w mJ2_add 4 1 10 [.ref a, .ref v] A (some (.int (nI 1))) (fun A' => ∃ (e' cap' : Nat) (g' : Nat → Option Nat), A'.1 a = some (.inr (7, alF (c + nI 1) e' (n + 1))) ∧ A'.1 e' = some (eR w 5 cap' g') ∧ ((e' = e ∧ cap' = cap ∧ A'.2 = A.2) ∨ (e' = A.2 ∧ cap' = 10 ∧ A'.2 = A.2 + 1)) ∧ wb w ≤ e' ∧ n < cap' ∧ g' n = some v ∧ (∀ i, i < n → g' i = g i) ∧ (∀ q, q ≠ a → q ≠ e' → A'.1 q = A.1 q)) := by
  refine Ev.mk 0 [some (.ref a), some (.ref v)] rfl plJ2 (Nat.le_of_ble_eq_true rfl) ?_
  have hne := ne_io hA hE
  have hva : v ≠ a := ne_oo hv hA h7
  refine r_aload_n 1 dJ2_add_0 rfl rfl lo0 ?_
  refine r_dup 2 dJ2_add_1 rfl rfl ?_
  refine r_get 5 dJ2_add_2 rfl g_J2_63_7 hA lo0 ?_
  refine r_iconst 6 dJ2_add_5 rfl ic_1 ?_
  refine r_iadd 7 dJ2_add_6 rfl ?_
  refine r_put 10 dJ2_add_7 rfl g_J2_63_7 cw_7 fw_7_0 hA hba so0 (Nat.le_of_ble_eq_true rfl) rfl rfl ?_
  refine r_aload_n 11 dJ2_add_10 rfl rfl lo0 ?_
  refine r_aload_n 12 dJ2_add_11 rfl rfl lo1 ?_
  refine r_aload_n 13 dJ2_add_12 rfl rfl lo0 ?_
  refine r_get 16 dJ2_add_13 rfl g_J2_9_7 hp_up_s lo1 ?_
  refine r_aload_n 17 dJ2_add_16 rfl rfl lo0 ?_
  refine r_get 20 dJ2_add_17 rfl g_J2_48_7 hp_up_s lo2 ?_
  refine rx_V3v 23 dJ2_add_20 rfl sV_J2_131_7 hp_up_s (by rfl) (ev_J2_add_2 hp_up_s ((hp_up_n (Ne.symm hne)).trans hE) hD hba ((hp_up_n hva).trans hv) S h7 hn hcp hdy) (fun A hP => ?_)
  obtain ⟨e', cap', g', p1, p2, p3, p4, p5, p6, p7, p8⟩ := hP
  refine r_iconst 24 dJ2_add_23 rfl ic_1 ?_
  exact r_zret dJ2_add_24 rfl (by first | exact nb_b _ | exact nb_0 | exact nb_1) (Nat.le_refl _) (Nat.le_refl _) ⟨rfl, e', cap', g', p1, p2, p3, p4, p5, p6, p7, fun q q1 q2 => (p8 q q1 q2).trans (hp_up_n q1)⟩

set_option maxHeartbeats 4000000 in
theorem ev_J0_init {w : WE} {A : Hp} {a : Nat} : EvP w mJ0_init 1 0 0 [.ref a] A none (fun A' => A' = A) := by
  refine Ev.mk 0 [some (.ref a)] rfl plJ0 (Nat.le_of_ble_eq_true rfl) ?_
  refine r_aload_n 1 dJ0_init_0 rfl rfl lo0 ?_
  refine r_objInit 4 dJ0_init_1 rfl q102 q89 q90 (by decide) (by decide) ?_
  exact r_vret dJ0_init_4 rfl (Nat.le_refl _) (Nat.le_refl _) ⟨rfl, rfl⟩

set_option maxHeartbeats 4000000 in
theorem ev_J1_init {w : WE} {A : Hp} {a : Nat} {c : Int32} {x y : Value} (hA : A.1 a = some (.inr (7, [.int c, x, y]))) (hba : wb w ≤ a) : EvP w mJ1_init 2 0 0 [.ref a] A none (fun A' => A' = hp_up A a (.inr (7, [.int (nI 0), x, y]))) := by
  refine Ev.mk 0 [some (.ref a)] rfl plJ1 (Nat.le_of_ble_eq_true rfl) ?_
  refine r_aload_n 1 dJ1_init_0 rfl rfl lo0 ?_
  refine rx_I0v 4 dJ1_init_1 rfl sI_J1_1 (by rfl) ev_J0_init (fun A hP => ?_)
  subst hP
  refine r_aload_n 5 dJ1_init_4 rfl rfl lo0 ?_
  refine r_iconst 6 dJ1_init_5 rfl ic_0 ?_
  refine r_put 9 dJ1_init_6 rfl g_J1_7_7 cw_7 fw_7_0 hA hba so0 (Nat.le_of_ble_eq_true rfl) rfl rfl ?_
  exact r_vret dJ1_init_9 rfl (Nat.le_refl _) (Nat.le_refl _) ⟨rfl, rfl⟩

set_option maxHeartbeats 4000000 in
theorem ev_J2_init {w : WE} {A : Hp} {a : Nat} (hA : A.1 a = some (.inr (7, [.int 0, .null, .int 0]))) (hba : wb w ≤ a) (hD : KD w) : EvP w mJ2_init 3 0 0 [.ref a] A none (fun A' => A'.1 a = some (.inr (7, alF (nI 0) (de w) 0)) ∧ A'.2 = A.2 ∧ ∀ q, q ≠ a → A'.1 q = A.1 q) := by
  refine Ev.mk 0 [some (.ref a)] rfl plJ2 (Nat.le_of_ble_eq_true rfl) ?_
  refine r_aload_n 1 dJ2_init_0 rfl rfl lo0 ?_
  refine rx_I0v 4 dJ2_init_1 rfl sI_J2_1 (by rfl) (ev_J1_init hA hba) (fun A hP => ?_)
  subst hP
  refine r_aload_n 5 dJ2_init_4 rfl rfl lo0 ?_
  refine r_gets 8 dJ2_init_5 rfl q103 hD ?_
  refine r_put 11 dJ2_init_8 rfl g_J2_9_7 cw_7 fw_7_1 hp_up_s hba so1 (Nat.le_of_ble_eq_true rfl) rfl rfl ?_
  exact r_vret dJ2_init_11 rfl (Nat.le_refl _) (Nat.le_refl _) ⟨rfl, hp_up_s, rfl, fun q hq => (hp_up_n hq).trans (hp_up_n hq)⟩

set_option maxHeartbeats 4000000 in
theorem ev_J2_init_2 {w : WE} {A : Hp} {a : Nat} (hA : A.1 a = some (.inr (7, [.int 0, .null, .int 0]))) (hba : wb w ≤ a) : EvP w mJ2_init_2 3 1 3 [.ref a, .int (nI 3)] A none (fun A' => A'.1 a = some (.inr (7, alF (nI 0) A.2 0)) ∧ A'.1 A.2 = some (eR w 5 3 (fun _ => none)) ∧ A'.2 = A.2 + 1 ∧ ∀ q, q ≠ a → q ≠ A.2 → A'.1 q = A.1 q) := by
  refine Ev.mk 0 [some (.ref a), some (.int (nI 3))] rfl plJ2 (Nat.le_of_ble_eq_true rfl) ?_
  refine r_aload_n 1 dJ2_init_2_0 rfl rfl lo0 ?_
  refine r_fresh (fun hlt hwb => ?_)
  have haz : a ≠ A.2 := Nat.ne_of_lt (hlt _ _ hA)
  refine rx_I0v 4 dJ2_init_2_1 rfl sI_J2_1 (by rfl) (ev_J1_init hA hba) (fun A hP => ?_)
  subst hP
  refine r_iload_n 5 dJ2_init_2_4 rfl rfl lo1 ?_
  first | refine r_if_leN 19 8 dJ2_init_2_5 rfl (by decide) (by omega) (fun hc5 => ?_) (fun hc5 => ?_) | refine r_if_le 19 8 dJ2_init_2_5 rfl (by decide) (fun hc5 => ?_) (fun hc5 => ?_)
  · exact absurd hc5 (by decide)
  · refine r_aload_n 9 dJ2_init_2_8 rfl rfl lo0 ?_
    refine r_iload_n 10 dJ2_init_2_9 rfl rfl lo1 ?_
    refine r_anew (t := 5) (N := 3) 13 dJ2_init_2_10 rfl q398 q391 rfl rfl (by decide) (by decide) (by decide) (fun hlt hwb => ?_)
    refine r_put 16 dJ2_init_2_13 rfl g_J2_9_7 cw_7 fw_7_1 ((hp_new_n (A := hp_up A a (.inr (7, [.int (nI 0), .null, .int 0]))) haz).trans hp_up_s) hba so1 (Nat.le_of_ble_eq_true rfl) rfl rfl ?_
    refine r_goto 60 dJ2_init_2_16 (by decide) ?_
    exact r_vret dJ2_init_2_60 rfl (Nat.le_refl _) (Nat.le_refl _) ⟨rfl, hp_up_s, (hp_up_n (Ne.symm haz)).trans (hp_new_s (A := hp_up A a (.inr (7, [.int (nI 0), .null, .int 0])))), rfl, fun q q1 q2 => (hp_up_n q1).trans ((hp_new_n (A := hp_up A a (.inr (7, [.int (nI 0), .null, .int 0]))) q2).trans (hp_up_n q1))⟩

