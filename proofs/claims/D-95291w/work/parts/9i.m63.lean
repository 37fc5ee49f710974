/-! THE CLASS IS MADE -/
set_option maxRecDepth 100000
def xE (w : WE) : Nat → va_E := fun j => if j ≤ 2 then .inr (7, alF (nI 0) (de w) 0) else if j = 3 then eI w 0 2000 (fun _ => 0) else if j = 4 then eR w 3 10 (fun i => some (wb w + (5 + i))) else if j ≤ 14 then eI w 0 2001 (fun _ => 0) else if j ≤ 19 then eI w 0 6 (fun _ => 0) else eR w 4 4 (fun _ => none)
/-- the class as it is made: its fields fs, k of its cells -/
def IX (w : WE) (A0 A : Hp) (k : Nat) (fs : List Value) : Prop := A.1 (wb w) = some (.inr (0, fs)) ∧ A.2 = wb w + (k + 1) ∧ (∀ j, 1 ≤ j → j ≤ k → A.1 (wb w + j) = some (xE w j)) ∧ ∀ q, q < wb w → A.1 q = A0.1 q
section RIX
variable {w : WE} {M : MI} {R : Room} {Z : ZT} {c s : Nat} {A A0 : Hp} {pc : Nat} {lo : List (Option Value)} {st : List Value} {k kf N idx : Nat} {fs fs' : List Value}
theorem IX.add (h : IX w A0 A k fs) (A' : Hp) (e1 : A'.1 (wb w) = some (.inr (0, fs'))) (e2 : A'.2 = A.2 + 1) (e3 : ∀ q, q ≠ wb w → q ≠ A.2 → A'.1 q = A.1 q) (e4 : A'.1 (wb w + (k + 1)) = some (xE w (k + 1))) : IX w A0 A' (k + 1) fs' := by
  obtain ⟨a1, a2, a3, a4⟩ := h
  refine ⟨e1, by rw [e2, a2]; omega, fun j j1 j2 => ?_, fun q hq => ?_⟩
  · by_cases e : j = k + 1
    · subst e
      exact e4
    · rw [e3 (wb w + j) (by omega) (by omega)]
      exact a3 j j1 (by omega)
  · rw [e3 q (by omega) (by omega)]
    exact a4 q hq
theorem rx_newI (n1 n2 : Nat) (hd : decode M.2.1 pc = .ok (.newarray .int, 2)) (hn : pc + 2 = n1) (hd2 : decode M.2.1 n1 = .ok (.putfield idx, 3)) (hn2 : n1 + 3 = n2) (h : IX w A0 A k fs) (hE : xE w (k + 1) = eI w 0 N (fun _ => 0)) (S : SiteG M.1.cls idx 0 kf) (SF : FldW 0 kf true (.array .int)) (SO : FldO 0 kf M.1.cls) (hnm : M.1.name = "<init>") (hs : fs.set kf (.ref (wb w + (k + 1))) = fs') (hl : kf < fs.length) (hb : N < 2 ^ 26) (h1 : c + 1 ≤ R.cells) (h2 : s + N ≤ R.slots) (K : ∀ A', IX w A0 A' (k + 1) fs' → Rn w M R Z (c + 1) (s + N) A' n2 lo st) : Rn w M R Z c s A pc lo (.int (nI N) :: .ref (wb w) :: st) := by
  have a2 := h.2.1
  refine r_newI (t := 0) n1 hd hn rfl q166 rfl (fun U cA h => h) rfl rfl hb (by decide) h1 h2 (fun hlt hwb => ?_)
  have hs' : fs.set kf (.ref A.2) = fs' := by rw [a2]; exact hs
  refine r_putF n2 hd2 hn2 S cw_0 SF SO hnm ((hp_new_n (by rw [a2]; omega)).trans h.1) (Nat.le_refl _) hs' hl rfl rfl (K _ (h.add _ hp_up_s rfl (fun q q1 q2 => (hp_up_n q1).trans (hp_new_n q2)) ?_))
  refine (hp_up_n (by omega)).trans ?_
  rw [← a2, hE]
  exact hp_new_s
end RIX
theorem hpM_s {w : WE} {A : Hp} {N M q : Nat} (h : q = A.2) : (hpM w A N M).1 q = some (eR w 3 N (fun i => some (A.2 + (1 + i)))) := if_pos h
theorem hpM_i {w : WE} {A : Hp} {N M q : Nat} (h : A.2 < q) (h2 : q < A.2 + (1 + N)) : (hpM w A N M).1 q = some (eI w 0 M (fun _ => 0)) := (if_neg (by omega)).trans (if_pos ⟨h, h2⟩)
theorem hpM_o {w : WE} {A : Hp} {N M q : Nat} (h : q ≠ A.2) (h2 : q < A.2 ∨ A.2 + (1 + N) ≤ q) : (hpM w A N M).1 q = A.1 q := (if_neg h).trans (if_neg (by omega))
theorem hpM_n {w : WE} {A : Hp} {N M q : Nat} {e : va_E} (h : q ≠ A.2) (h2 : q < A.2 ∨ A.2 + (1 + N) ≤ q) (he : A.1 q = some e) : (hpM w A N M).1 q = some e := (hpM_o h h2).trans he
set_option maxHeartbeats 4000000 in
theorem ev_X0_init {w : WE} {A : Hp} (hA : A.1 (wb w) = some (.inr (0, [.int 0, .null, .int 0, .null, .null, .null, .null, .null, .null, .null, .int 0, .null, .int 0, .null]))) (h2 : A.2 = wb w + 1) (hD : KD w) (hdw : de w < wb w) (hde : A.1 (de w) = some (eR w 5 0 (fun _ => none))) : Ev w mX0_init 4 20 22060 [.ref (wb w)] A (fun v A' => v = none ∧ ∃ x', XS w A' x' S0 ∧ A'.2 = wb w + 21 ∧ ∀ q, q < wb w → A'.1 q = A.1 q) := by
  refine Ev.mk 0 [some (.ref (wb w))] rfl plX0 (Nat.le_of_ble_eq_true rfl) ?_
  refine r_aload_n 1 dX0_init_0 rfl rfl lo0 ?_
  refine r_objInit 4 dX0_init_1 rfl q88 q89 q90 (by decide) (by decide) ?_
  have h : IX w A A 0 [.int 0, .null, .int 0, .null, .null, .null, .null, .null, .null, .null, .int 0, .null, .int 0, .null] := ⟨hA, h2, fun j j1 j2 => absurd j1 (by omega), fun _ _ => rfl⟩
  refine r_eqI (I := fun A1 => IX w A A1 0 [.int 0, .null, .int 0, .null, .null, .null, .null, .null, .null, .null, .int 0, .null, .int 0, .null]) h (fun A0 h => ?_)
  have a2 := h.2.1
  refine r_aload_n 5 dX0_init_4 rfl rfl lo0 ?_
  refine r_new 8 dX0_init_5 rfl sN_X0_21 dv_7 (by decide) (by decide) (fun hlt hwb => ?_)
  refine r_dup 9 dX0_init_8 rfl rfl ?_
  refine rx_I0v 12 dX0_init_9 rfl sI_X0_23 (by rfl) (ev_J2_init hp_new_s hwb hD) (fun B0 hP => ?_)
  obtain ⟨p1, p2, p3⟩ := hP
  rw [a2] at p1 ⊢
  refine r_putF 15 dX0_init_12 rfl g_X0_24_0 cw_0 fw_0_1 fo_0_1 rfl ((p3 _ (by omega)).trans ((hp_new_n (by omega)).trans h.1)) (Nat.le_refl _) so1 (Nat.le_of_ble_eq_true rfl) rfl rfl ?_
  refine r_eqI (I := fun A1 => IX w A A1 1 [.int 0, .ref (wb w + 1), .int 0, .null, .null, .null, .null, .null, .null, .null, .int 0, .null, .int 0, .null]) (h.add _ hp_up_s p2 (fun q q1 q2 => (hp_up_n q1).trans ((p3 q q2).trans (hp_new_n q2))) ((hp_up_n (by omega)).trans p1)) (fun A1 h => ?_)
  have a2 := h.2.1
  refine r_aload_n 16 dX0_init_15 rfl rfl lo0 ?_
  refine r_new 19 dX0_init_16 rfl sN_X0_21 dv_7 (by decide) (by decide) (fun hlt hwb => ?_)
  refine r_dup 20 dX0_init_19 rfl rfl ?_
  refine rx_I0v 23 dX0_init_20 rfl sI_X0_23 (by rfl) (ev_J2_init hp_new_s hwb hD) (fun B1 hP => ?_)
  obtain ⟨p1, p2, p3⟩ := hP
  rw [a2] at p1 ⊢
  refine r_putF 26 dX0_init_23 rfl g_X0_28_0 cw_0 fw_0_3 fo_0_3 rfl ((p3 _ (by omega)).trans ((hp_new_n (by omega)).trans h.1)) (Nat.le_refl _) so3 (Nat.le_of_ble_eq_true rfl) rfl rfl ?_
  refine r_eqI (I := fun A1 => IX w A A1 2 [.int 0, .ref (wb w + 1), .int 0, .ref (wb w + 2), .null, .null, .null, .null, .null, .null, .int 0, .null, .int 0, .null]) (h.add _ hp_up_s p2 (fun q q1 q2 => (hp_up_n q1).trans ((p3 q q2).trans (hp_new_n q2))) ((hp_up_n (by omega)).trans p1)) (fun A2 h => ?_)
  refine r_aload_n 27 dX0_init_26 rfl rfl lo0 ?_
  refine r_sipush 30 dX0_init_27 rfl si_2000 ?_
  refine rx_newI (k := 2) (N := 2000) 32 35 dX0_init_30 rfl dX0_init_32 rfl h (by rfl) g_X0_31_0 fw_0_4 fo_0_4 rfl so4 (Nat.le_of_ble_eq_true rfl) (by decide) (by decide) (by decide) (fun A12 h => ?_)
  have a3 := h.2.1
  refine r_aload_n 36 dX0_init_35 rfl rfl lo0 ?_
  refine r_bipush 38 dX0_init_36 rfl bi_10 ?_
  refine r_sipush 41 dX0_init_38 rfl si_2001 ?_
  refine r_multi (N := 10) (L := 2001) 45 dX0_init_41 rfl q117 (by decide) (by decide) (by decide) (by decide) (fun hlt hwb => ?_)
  rw [a3]
  refine r_putF 48 dX0_init_45 rfl g_X0_37_0 cw_0 fw_0_5 fo_0_5 rfl (hpM_n (by omega) (Or.inl (by omega)) h.1) (Nat.le_refl _) so5 (Nat.le_of_ble_eq_true rfl) rfl rfl ?_
  refine r_eqI (I := fun A1 => IX w A A1 14 [.int 0, .ref (wb w + 1), .int 0, .ref (wb w + 2), .ref (wb w + 3), .ref (wb w + 4), .null, .null, .null, .null, .int 0, .null, .int 0, .null]) ⟨hp_up_s, by show _ + (1 + 10) = _; rw [a3], fun j j1 j2 => (hp_up_n (by omega)).trans ?_, fun q hq => (hp_up_n (by omega)).trans ((hpM_o (by omega) (Or.inl (by omega))).trans (h.2.2.2 q hq))⟩ (fun A24 h => ?_)
  · by_cases e4 : j = 4
    · subst e4
      exact (hpM_s (by rw [a3])).trans (by rw [a3]; exact congrArg (fun f => some (eR w 3 10 f)) (funext (fun i => congrArg some (by omega))))
    · by_cases e5 : j ≤ 3
      · exact hpM_n (by omega) (Or.inl (by omega)) (h.2.2.1 j j1 e5)
      · rw [hpM_i (by omega) (by omega)]
        unfold xE
        rw [if_neg (by omega), if_neg (by omega), if_neg e4, if_pos j2]
  refine r_aload_n 49 dX0_init_48 rfl rfl lo0 ?_
  refine r_bipush 51 dX0_init_49 rfl bi_6 ?_
  refine rx_newI (k := 14) (N := 6) 53 56 dX0_init_51 rfl dX0_init_53 rfl h (by rfl) g_X0_40_0 fw_0_6 fo_0_6 rfl so6 (Nat.le_of_ble_eq_true rfl) (by decide) (by decide) (by decide) (fun A24 h => ?_)
  refine r_aload_n 57 dX0_init_56 rfl rfl lo0 ?_
  refine r_bipush 59 dX0_init_57 rfl bi_6 ?_
  refine rx_newI (k := 15) (N := 6) 61 64 dX0_init_59 rfl dX0_init_61 rfl h (by rfl) g_X0_43_0 fw_0_7 fo_0_7 rfl so7 (Nat.le_of_ble_eq_true rfl) (by decide) (by decide) (by decide) (fun A25 h => ?_)
  refine r_aload_n 65 dX0_init_64 rfl rfl lo0 ?_
  refine r_bipush 67 dX0_init_65 rfl bi_6 ?_
  refine rx_newI (k := 16) (N := 6) 69 72 dX0_init_67 rfl dX0_init_69 rfl h (by rfl) g_X0_46_0 fw_0_8 fo_0_8 rfl so8 (Nat.le_of_ble_eq_true rfl) (by decide) (by decide) (by decide) (fun A26 h => ?_)
  refine r_aload_n 73 dX0_init_72 rfl rfl lo0 ?_
  refine r_bipush 75 dX0_init_73 rfl bi_6 ?_
  refine rx_newI (k := 17) (N := 6) 77 80 dX0_init_75 rfl dX0_init_77 rfl h (by rfl) g_X0_49_0 fw_0_9 fo_0_9 rfl so9 (Nat.le_of_ble_eq_true rfl) (by decide) (by decide) (by decide) (fun A27 h => ?_)
  refine r_aload_n 81 dX0_init_80 rfl rfl lo0 ?_
  refine r_bipush 83 dX0_init_81 rfl bi_6 ?_
  refine rx_newI (k := 18) (N := 6) 85 88 dX0_init_83 rfl dX0_init_85 rfl h (by rfl) g_X0_52_0 fw_0_11 fo_0_11 rfl so11 (Nat.le_of_ble_eq_true rfl) (by decide) (by decide) (by decide) (fun A28 h => ?_)
  have a4 := h.2.1
  refine r_aload_n 89 dX0_init_88 rfl rfl lo0 ?_
  refine r_iconst 90 dX0_init_89 rfl ic_4 ?_
  refine r_anew (t := 4) (N := 4) 93 dX0_init_90 rfl q119 q120 rfl rfl (by decide) (by decide) (by decide) (fun hlt hwb => ?_)
  rw [a4]
  refine r_putF 96 dX0_init_93 rfl g_X0_57_0 cw_0 fw_0_13 fo_0_13 rfl ((hp_new_n (by omega)).trans h.1) (Nat.le_refl _) so13 (Nat.le_of_ble_eq_true rfl) rfl rfl ?_
  have h := h.add (A' := _) hp_up_s rfl (fun q q1 q2 => (hp_up_n q1).trans (hp_new_n q2)) ((hp_up_n (by omega)).trans (by rw [← a4]; exact hp_new_s)) (fs' := [.int 0, .ref (wb w + 1), .int 0, .ref (wb w + 2), .ref (wb w + 3), .ref (wb w + 4), .ref (wb w + 15), .ref (wb w + 16), .ref (wb w + 17), .ref (wb w + 18), .int 0, .ref (wb w + 19), .int 0, .ref (wb w + 20)])
  refine r_vret dX0_init_96 rfl (by decide) (by decide) ⟨rfl, ((fun _ => 0), (fun _ _ => 0), (de w, de w), (fun _ => 0), (fun _ => 0), fun _ => none), ?_, h.2.1, h.2.2.2⟩
  have hdc := (h.2.2.2 _ hdw).trans hde
  refine ⟨⟨h.1, fun j hj => ?_, h.2.2.1 4 (by decide) (by decide)⟩, ⟨⟨nI 0, 0, fun _ => none, h.2.2.1 1 (by decide) (by decide), hdc, Or.inr ⟨rfl, rfl, rfl⟩, Nat.le_refl _, fun i hi => absurd hi (Nat.not_lt_zero _)⟩, fun i q hq => by cases hq⟩, ⟨⟨nI 0, 0, fun _ => none, h.2.2.1 2 (by decide) (by decide), hdc, Or.inr ⟨rfl, rfl, rfl⟩, Nat.le_refl _, fun i hi => absurd hi (Nat.not_lt_zero _)⟩, fun i q hq => by cases hq⟩, ⟨h.2.2.1 20 (by decide) (by decide), fun k hk => Or.inl ⟨rfl, rfl⟩, fun j k p p' _ _ _ hp => by cases hp⟩, ⟨fun _ => rfl, rfl, rfl, rfl⟩, ⟨hdc, hD, hdw⟩, ⟨⟨Or.inl ⟨rfl, rfl, rfl⟩, fun q hq => by cases hq⟩, Nat.zero_le _, (fun q hq => by cases hq), Nat.zero_le _, fun q hq => by cases hq⟩⟩
  refine (h.2.2.1 j (by rcases hj with h | h <;> omega) (by rcases hj with h | h <;> omega)).trans ?_
  unfold xE xL
  rcases hj with rfl | ⟨h1, h2⟩
  · rfl
  · have n1 : ¬ j ≤ 2 := by omega
    have n2 : ¬ j = 3 := by omega
    have n3 : ¬ j = 4 := by omega
    by_cases h5 : j ≤ 14
    · rw [if_neg n1, if_neg n2, if_neg n3, if_pos h5, if_neg n2, if_pos h5]
    · rw [if_neg n1, if_neg n2, if_neg n3, if_neg h5, if_neg n2, if_neg h5, if_pos h2]

