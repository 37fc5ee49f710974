/-! THE REFERENCE IS MADE -/
set_option maxRecDepth 100000
theorem so16 {α : Type} {x a0 a1 a2 a3 a4 a5 a6 a7 a8 a9 a10 a11 a12 a13 a14 a15 a16 : α} {l : List α} : (a0 :: a1 :: a2 :: a3 :: a4 :: a5 :: a6 :: a7 :: a8 :: a9 :: a10 :: a11 :: a12 :: a13 :: a14 :: a15 :: a16 :: l).set 16 x = a0 :: a1 :: a2 :: a3 :: a4 :: a5 :: a6 :: a7 :: a8 :: a9 :: a10 :: a11 :: a12 :: a13 :: a14 :: a15 :: x :: l := rfl
theorem so17 {α : Type} {x a0 a1 a2 a3 a4 a5 a6 a7 a8 a9 a10 a11 a12 a13 a14 a15 a16 a17 : α} {l : List α} : (a0 :: a1 :: a2 :: a3 :: a4 :: a5 :: a6 :: a7 :: a8 :: a9 :: a10 :: a11 :: a12 :: a13 :: a14 :: a15 :: a16 :: a17 :: l).set 17 x = a0 :: a1 :: a2 :: a3 :: a4 :: a5 :: a6 :: a7 :: a8 :: a9 :: a10 :: a11 :: a12 :: a13 :: a14 :: a15 :: a16 :: x :: l := rfl
theorem so18 {α : Type} {x a0 a1 a2 a3 a4 a5 a6 a7 a8 a9 a10 a11 a12 a13 a14 a15 a16 a17 a18 : α} {l : List α} : (a0 :: a1 :: a2 :: a3 :: a4 :: a5 :: a6 :: a7 :: a8 :: a9 :: a10 :: a11 :: a12 :: a13 :: a14 :: a15 :: a16 :: a17 :: a18 :: l).set 18 x = a0 :: a1 :: a2 :: a3 :: a4 :: a5 :: a6 :: a7 :: a8 :: a9 :: a10 :: a11 :: a12 :: a13 :: a14 :: a15 :: a16 :: a17 :: x :: l := rfl
theorem so19 {α : Type} {x a0 a1 a2 a3 a4 a5 a6 a7 a8 a9 a10 a11 a12 a13 a14 a15 a16 a17 a18 a19 : α} {l : List α} : (a0 :: a1 :: a2 :: a3 :: a4 :: a5 :: a6 :: a7 :: a8 :: a9 :: a10 :: a11 :: a12 :: a13 :: a14 :: a15 :: a16 :: a17 :: a18 :: a19 :: l).set 19 x = a0 :: a1 :: a2 :: a3 :: a4 :: a5 :: a6 :: a7 :: a8 :: a9 :: a10 :: a11 :: a12 :: a13 :: a14 :: a15 :: a16 :: a17 :: a18 :: x :: l := rfl
theorem so20 {α : Type} {x a0 a1 a2 a3 a4 a5 a6 a7 a8 a9 a10 a11 a12 a13 a14 a15 a16 a17 a18 a19 a20 : α} {l : List α} : (a0 :: a1 :: a2 :: a3 :: a4 :: a5 :: a6 :: a7 :: a8 :: a9 :: a10 :: a11 :: a12 :: a13 :: a14 :: a15 :: a16 :: a17 :: a18 :: a19 :: a20 :: l).set 20 x = a0 :: a1 :: a2 :: a3 :: a4 :: a5 :: a6 :: a7 :: a8 :: a9 :: a10 :: a11 :: a12 :: a13 :: a14 :: a15 :: a16 :: a17 :: a18 :: a19 :: x :: l := rfl
theorem so21 {α : Type} {x a0 a1 a2 a3 a4 a5 a6 a7 a8 a9 a10 a11 a12 a13 a14 a15 a16 a17 a18 a19 a20 a21 : α} {l : List α} : (a0 :: a1 :: a2 :: a3 :: a4 :: a5 :: a6 :: a7 :: a8 :: a9 :: a10 :: a11 :: a12 :: a13 :: a14 :: a15 :: a16 :: a17 :: a18 :: a19 :: a20 :: a21 :: l).set 21 x = a0 :: a1 :: a2 :: a3 :: a4 :: a5 :: a6 :: a7 :: a8 :: a9 :: a10 :: a11 :: a12 :: a13 :: a14 :: a15 :: a16 :: a17 :: a18 :: a19 :: a20 :: x :: l := rfl
theorem so22 {α : Type} {x a0 a1 a2 a3 a4 a5 a6 a7 a8 a9 a10 a11 a12 a13 a14 a15 a16 a17 a18 a19 a20 a21 a22 : α} {l : List α} : (a0 :: a1 :: a2 :: a3 :: a4 :: a5 :: a6 :: a7 :: a8 :: a9 :: a10 :: a11 :: a12 :: a13 :: a14 :: a15 :: a16 :: a17 :: a18 :: a19 :: a20 :: a21 :: a22 :: l).set 22 x = a0 :: a1 :: a2 :: a3 :: a4 :: a5 :: a6 :: a7 :: a8 :: a9 :: a10 :: a11 :: a12 :: a13 :: a14 :: a15 :: a16 :: a17 :: a18 :: a19 :: a20 :: a21 :: x :: l := rfl
theorem so23 {α : Type} {x a0 a1 a2 a3 a4 a5 a6 a7 a8 a9 a10 a11 a12 a13 a14 a15 a16 a17 a18 a19 a20 a21 a22 a23 : α} {l : List α} : (a0 :: a1 :: a2 :: a3 :: a4 :: a5 :: a6 :: a7 :: a8 :: a9 :: a10 :: a11 :: a12 :: a13 :: a14 :: a15 :: a16 :: a17 :: a18 :: a19 :: a20 :: a21 :: a22 :: a23 :: l).set 23 x = a0 :: a1 :: a2 :: a3 :: a4 :: a5 :: a6 :: a7 :: a8 :: a9 :: a10 :: a11 :: a12 :: a13 :: a14 :: a15 :: a16 :: a17 :: a18 :: a19 :: a20 :: a21 :: a22 :: x :: l := rfl
theorem so24 {α : Type} {x a0 a1 a2 a3 a4 a5 a6 a7 a8 a9 a10 a11 a12 a13 a14 a15 a16 a17 a18 a19 a20 a21 a22 a23 a24 : α} {l : List α} : (a0 :: a1 :: a2 :: a3 :: a4 :: a5 :: a6 :: a7 :: a8 :: a9 :: a10 :: a11 :: a12 :: a13 :: a14 :: a15 :: a16 :: a17 :: a18 :: a19 :: a20 :: a21 :: a22 :: a23 :: a24 :: l).set 24 x = a0 :: a1 :: a2 :: a3 :: a4 :: a5 :: a6 :: a7 :: a8 :: a9 :: a10 :: a11 :: a12 :: a13 :: a14 :: a15 :: a16 :: a17 :: a18 :: a19 :: a20 :: a21 :: a22 :: a23 :: x :: l := rfl
theorem so25 {α : Type} {x a0 a1 a2 a3 a4 a5 a6 a7 a8 a9 a10 a11 a12 a13 a14 a15 a16 a17 a18 a19 a20 a21 a22 a23 a24 a25 : α} {l : List α} : (a0 :: a1 :: a2 :: a3 :: a4 :: a5 :: a6 :: a7 :: a8 :: a9 :: a10 :: a11 :: a12 :: a13 :: a14 :: a15 :: a16 :: a17 :: a18 :: a19 :: a20 :: a21 :: a22 :: a23 :: a24 :: a25 :: l).set 25 x = a0 :: a1 :: a2 :: a3 :: a4 :: a5 :: a6 :: a7 :: a8 :: a9 :: a10 :: a11 :: a12 :: a13 :: a14 :: a15 :: a16 :: a17 :: a18 :: a19 :: a20 :: a21 :: a22 :: a23 :: a24 :: x :: l := rfl
theorem so26 {α : Type} {x a0 a1 a2 a3 a4 a5 a6 a7 a8 a9 a10 a11 a12 a13 a14 a15 a16 a17 a18 a19 a20 a21 a22 a23 a24 a25 a26 : α} {l : List α} : (a0 :: a1 :: a2 :: a3 :: a4 :: a5 :: a6 :: a7 :: a8 :: a9 :: a10 :: a11 :: a12 :: a13 :: a14 :: a15 :: a16 :: a17 :: a18 :: a19 :: a20 :: a21 :: a22 :: a23 :: a24 :: a25 :: a26 :: l).set 26 x = a0 :: a1 :: a2 :: a3 :: a4 :: a5 :: a6 :: a7 :: a8 :: a9 :: a10 :: a11 :: a12 :: a13 :: a14 :: a15 :: a16 :: a17 :: a18 :: a19 :: a20 :: a21 :: a22 :: a23 :: a24 :: a25 :: x :: l := rfl
theorem so27 {α : Type} {x a0 a1 a2 a3 a4 a5 a6 a7 a8 a9 a10 a11 a12 a13 a14 a15 a16 a17 a18 a19 a20 a21 a22 a23 a24 a25 a26 a27 : α} {l : List α} : (a0 :: a1 :: a2 :: a3 :: a4 :: a5 :: a6 :: a7 :: a8 :: a9 :: a10 :: a11 :: a12 :: a13 :: a14 :: a15 :: a16 :: a17 :: a18 :: a19 :: a20 :: a21 :: a22 :: a23 :: a24 :: a25 :: a26 :: a27 :: l).set 27 x = a0 :: a1 :: a2 :: a3 :: a4 :: a5 :: a6 :: a7 :: a8 :: a9 :: a10 :: a11 :: a12 :: a13 :: a14 :: a15 :: a16 :: a17 :: a18 :: a19 :: a20 :: a21 :: a22 :: a23 :: a24 :: a25 :: a26 :: x :: l := rfl
theorem so28 {α : Type} {x a0 a1 a2 a3 a4 a5 a6 a7 a8 a9 a10 a11 a12 a13 a14 a15 a16 a17 a18 a19 a20 a21 a22 a23 a24 a25 a26 a27 a28 : α} {l : List α} : (a0 :: a1 :: a2 :: a3 :: a4 :: a5 :: a6 :: a7 :: a8 :: a9 :: a10 :: a11 :: a12 :: a13 :: a14 :: a15 :: a16 :: a17 :: a18 :: a19 :: a20 :: a21 :: a22 :: a23 :: a24 :: a25 :: a26 :: a27 :: a28 :: l).set 28 x = a0 :: a1 :: a2 :: a3 :: a4 :: a5 :: a6 :: a7 :: a8 :: a9 :: a10 :: a11 :: a12 :: a13 :: a14 :: a15 :: a16 :: a17 :: a18 :: a19 :: a20 :: a21 :: a22 :: a23 :: a24 :: a25 :: a26 :: a27 :: x :: l := rfl
theorem so29 {α : Type} {x a0 a1 a2 a3 a4 a5 a6 a7 a8 a9 a10 a11 a12 a13 a14 a15 a16 a17 a18 a19 a20 a21 a22 a23 a24 a25 a26 a27 a28 a29 : α} {l : List α} : (a0 :: a1 :: a2 :: a3 :: a4 :: a5 :: a6 :: a7 :: a8 :: a9 :: a10 :: a11 :: a12 :: a13 :: a14 :: a15 :: a16 :: a17 :: a18 :: a19 :: a20 :: a21 :: a22 :: a23 :: a24 :: a25 :: a26 :: a27 :: a28 :: a29 :: l).set 29 x = a0 :: a1 :: a2 :: a3 :: a4 :: a5 :: a6 :: a7 :: a8 :: a9 :: a10 :: a11 :: a12 :: a13 :: a14 :: a15 :: a16 :: a17 :: a18 :: a19 :: a20 :: a21 :: a22 :: a23 :: a24 :: a25 :: a26 :: a27 :: a28 :: x :: l := rfl
theorem so30 {α : Type} {x a0 a1 a2 a3 a4 a5 a6 a7 a8 a9 a10 a11 a12 a13 a14 a15 a16 a17 a18 a19 a20 a21 a22 a23 a24 a25 a26 a27 a28 a29 a30 : α} {l : List α} : (a0 :: a1 :: a2 :: a3 :: a4 :: a5 :: a6 :: a7 :: a8 :: a9 :: a10 :: a11 :: a12 :: a13 :: a14 :: a15 :: a16 :: a17 :: a18 :: a19 :: a20 :: a21 :: a22 :: a23 :: a24 :: a25 :: a26 :: a27 :: a28 :: a29 :: a30 :: l).set 30 x = a0 :: a1 :: a2 :: a3 :: a4 :: a5 :: a6 :: a7 :: a8 :: a9 :: a10 :: a11 :: a12 :: a13 :: a14 :: a15 :: a16 :: a17 :: a18 :: a19 :: a20 :: a21 :: a22 :: a23 :: a24 :: a25 :: a26 :: a27 :: a28 :: a29 :: x :: l := rfl
/-- the reference as it is made: its fields fs, k of its arrays -/
def IM (w : WE) (A0 A : Hp) (k : Nat) (fs : List Value) (g : Nat → Nat → Int32) : Prop := A.1 (mb w) = some (.inr (1, fs)) ∧ A.2 = mb w + (k + 1) ∧ (∀ j, 1 ≤ j → j ≤ k → A.1 (mb w + j) = some (eI w 0 (mL j) (g j))) ∧ ∀ q, q < mb w → A.1 q = A0.1 q
section RIM
variable {w : WE} {M : MI} {R : Room} {Z : ZT} {c s : Nat} {A A0 : Hp} {pc : Nat} {lo : List (Option Value)} {st : List Value} {k kf N idx : Nat} {fs fs' : List Value} {g : Nat → Nat → Int32}
theorem IM.add (h : IM w A0 A k fs g) (A' : Hp) (e1 : A'.1 (mb w) = some (.inr (1, fs'))) (e2 : A'.2 = A.2 + 1) (e3 : ∀ q, q ≠ mb w → q ≠ A.2 → A'.1 q = A.1 q) (e4 : A'.1 (mb w + (k + 1)) = some (eI w 0 (mL (k + 1)) (g (k + 1)))) : IM w A0 A' (k + 1) fs' g := by
  obtain ⟨a1, a2, a3, a4⟩ := h
  refine ⟨e1, by rw [e2, a2]; omega, fun j j1 j2 => ?_, fun q hq => ?_⟩
  · by_cases e : j = k + 1
    · subst e
      exact e4
    · rw [e3 (mb w + j) (by omega) (by omega)]
      exact a3 j j1 (by omega)
  · rw [e3 q (by omega) (by omega)]
    exact a4 q hq
theorem ri_new (n1 n2 : Nat) (hd : decode M.2.1 pc = .ok (.newarray .int, 2)) (hn : pc + 2 = n1) (hd2 : decode M.2.1 n1 = .ok (.putfield idx, 3)) (hn2 : n1 + 3 = n2) (h : IM w A0 A k fs g) (hN : mL (k + 1) = N) (hg : g (k + 1) = fun _ => 0) (S : SiteG M.1.cls idx 1 kf) (SF : FldW 1 kf true (.array .int)) (SO : FldO 1 kf M.1.cls) (hnm : M.1.name = "<init>") (hs : fs.set kf (.ref (mb w + (k + 1))) = fs') (hl : kf < fs.length) (hb : N < 2 ^ 26) (h1 : c + 1 ≤ R.cells) (h2 : s + N ≤ R.slots) (K : ∀ A', IM w A0 A' (k + 1) fs' g → Rn w M R Z (c + 1) (s + N) A' n2 lo st) : Rn w M R Z c s A pc lo (.int (nI N) :: .ref (mb w) :: st) := by
  have a2 := h.2.1
  refine r_newI (t := 0) n1 hd hn rfl q166 rfl (fun U cA h => h) rfl rfl hb (by decide) h1 h2 (fun hlt hwb => ?_)
  have hs' : fs.set kf (.ref A.2) = fs' := by rw [a2]; exact hs
  refine r_putF n2 hd2 hn2 S cw_1 SF SO hnm ((hp_new_n (by rw [a2]; omega)).trans h.1) (by show wb w ≤ wb w + 21; omega) hs' hl rfl rfl (K _ (h.add _ hp_up_s rfl (fun q q1 q2 => (hp_up_n q1).trans (hp_new_n q2)) ?_))
  refine (hp_up_n (by omega)).trans ?_
  rw [← a2, hg, hN]
  exact hp_new_s
end RIM
abbrev S0 : ST := (0, [], [], 0, 0, fun _ => none)
def g0 : Nat → Nat → Int32 := fun j => if j = 1 then upd (upd (upd (upd (fun _ => 0) 0 (-9)) 1 (-9)) 2 (-9)) 3 (-9) else fun _ => 0
theorem g0_1 : g0 1 = upd (upd (upd (upd (fun _ => 0) 0 (-9)) 1 (-9)) 2 (-9)) 3 (-9) := if_pos rfl
theorem g0_n {j : Nat} (h : j ≠ 1) : g0 j = fun _ => 0 := if_neg h
theorem MS0 : MS (fun _ => 0, g0) S0 := by
  refine ⟨rfl, ⟨rfl, Nat.zero_le _, fun i q hq => by cases hq⟩, ⟨rfl, Nat.zero_le _, fun i q hq => by cases hq⟩, rfl, rfl, fun k hk => ⟨fun _ => ?_, fun q hq => by cases hq⟩, Or.inl ⟨rfl, rfl, rfl⟩, fun q hq => by cases hq⟩
  show g0 1 k = -9
  rw [g0_1]
  match k, hk with
  | 0, _ => rfl
  | 1, _ => rfl
  | 2, _ => rfl
  | 3, _ => rfl
theorem r_eqI {w : WE} {M : MI} {R : Room} {Z : ZT} {k n : Nat} {A : Hp} {pc : Nat} {lo : List (Option Value)} {st : List Value} {I : Hp → Prop} (h : I A) (K : ∀ A, I A → Rn w M R Z k n A pc lo st) : Rn w M R Z k n A pc lo st := K A h
set_option maxHeartbeats 4000000 in
theorem ev_X1_init {w : WE} {A : Hp} (hA : A.1 (mb w) = some (.inr (1, [.int 0, .int 0, .null, .null, .null, .int 0, .int 0, .null, .null, .null, .int 0, .int 0, .int 0, .null, .null, .null, .int 0, .null, .null, .null, .null, .null, .null, .null, .null, .null, .int 0, .null, .null, .null, .null]))) (h2 : A.2 = mb w + 1) : Ev w mX1_init 1 22 20376 [.ref (mb w)] A (fun v A' => v = none ∧ ∃ m', MR w A' m' ∧ MS m' S0 ∧ A'.2 = mb w + 23 ∧ ∀ q, q < mb w → A'.1 q = A.1 q) := by
  refine Ev.mk 0 [some (.ref (mb w))] rfl plX1 (Nat.le_of_ble_eq_true rfl) ?_
  refine r_aload_n 1 dX1_init_0 rfl rfl lo0 ?_
  refine r_objInit 4 dX1_init_1 rfl q1148 q89 q90 (by decide) (by decide) ?_
  refine r_aload_n 5 dX1_init_4 rfl rfl lo0 ?_
  refine r_iconst 6 dX1_init_5 rfl ic_4 ?_
  refine r_newI (t := 0) (N := 4) 8 dX1_init_6 rfl rfl q166 rfl (fun U cA h => h) rfl rfl (by decide) (by decide) (by decide) (by decide) (fun hlt hwb => ?_)
  rw [h2]
  refine r_dup 9 dX1_init_8 rfl rfl ?_
  refine r_iconst 10 dX1_init_9 rfl ic_0 ?_
  refine r_bipush 12 dX1_init_10 rfl bi_m9 ?_
  refine r_iast (N := 4) 13 dX1_init_12 rfl (by rw [← h2]; exact hp_new_s) (by show wb w ≤ wb w + 21 + 1; omega) 0 rfl (by decide) (by decide) ?_
  refine r_dup 14 dX1_init_13 rfl rfl ?_
  refine r_iconst 15 dX1_init_14 rfl ic_1 ?_
  refine r_bipush 17 dX1_init_15 rfl bi_m9 ?_
  refine r_iast (N := 4) 18 dX1_init_17 rfl hp_up_s (by show wb w ≤ wb w + 21 + 1; omega) 1 rfl (by decide) (by decide) ?_
  refine r_dup 19 dX1_init_18 rfl rfl ?_
  refine r_iconst 20 dX1_init_19 rfl ic_2 ?_
  refine r_bipush 22 dX1_init_20 rfl bi_m9 ?_
  refine r_iast (N := 4) 23 dX1_init_22 rfl hp_up_s (by show wb w ≤ wb w + 21 + 1; omega) 2 rfl (by decide) (by decide) ?_
  refine r_dup 24 dX1_init_23 rfl rfl ?_
  refine r_iconst 25 dX1_init_24 rfl ic_3 ?_
  refine r_bipush 27 dX1_init_25 rfl bi_m9 ?_
  refine r_iast (N := 4) 28 dX1_init_27 rfl hp_up_s (by show wb w ≤ wb w + 21 + 1; omega) 3 rfl (by decide) (by decide) ?_
  refine r_putF 31 dX1_init_28 rfl g_X1_9_1 cw_1 fw_1_2 fo_1_2 rfl ((hp_up_n (by omega)).trans ((hp_up_n (by omega)).trans ((hp_up_n (by omega)).trans ((hp_up_n (by omega)).trans ((hp_new_n (by rw [h2]; omega)).trans hA))))) (by show wb w ≤ wb w + 21; omega) so2 (by decide) rfl rfl ?_
  refine r_eqI (I := fun A' => IM w A A' 1 _ g0) ⟨hp_up_s, by show A.2 + 1 = _; rw [h2], fun j j1 j2 => ?_, fun q hq => ?_⟩ (fun A1 h => ?_)
  · have : j = 1 := by omega
    subst this
    rw [g0_1]
    exact (hp_up_n (by omega)).trans hp_up_s
  · exact (hp_up_n (by omega)).trans ((hp_up_n (by omega)).trans ((hp_up_n (by omega)).trans ((hp_up_n (by omega)).trans ((hp_up_n (by omega)).trans (hp_new_n (by rw [h2]; omega))))))
  refine r_aload_n 32 dX1_init_31 rfl rfl lo0 ?_
  refine r_iconst 33 dX1_init_32 rfl ic_4 ?_
  refine ri_new (k := 1) (N := 4) 35 38 dX1_init_33 rfl dX1_init_35 rfl h rfl (g0_n (by decide)) g_X1_13_1 fw_1_3 fo_1_3 rfl so3 (Nat.le_of_ble_eq_true rfl) (by decide) (by decide) (by decide) (fun A2 h => ?_)
  refine r_aload_n 39 dX1_init_38 rfl rfl lo0 ?_
  refine r_sipush 42 dX1_init_39 rfl si_240 ?_
  refine ri_new (k := 2) (N := 240) 44 47 dX1_init_42 rfl dX1_init_44 rfl h rfl (g0_n (by decide)) g_X1_16_1 fw_1_4 fo_1_4 rfl so4 (Nat.le_of_ble_eq_true rfl) (by decide) (by decide) (by decide) (fun A3 h => ?_)
  refine r_aload_n 48 dX1_init_47 rfl rfl lo0 ?_
  refine r_iconst 49 dX1_init_48 rfl ic_3 ?_
  refine ri_new (k := 3) (N := 3) 51 54 dX1_init_49 rfl dX1_init_51 rfl h rfl (g0_n (by decide)) g_X1_19_1 fw_1_7 fo_1_7 rfl so7 (Nat.le_of_ble_eq_true rfl) (by decide) (by decide) (by decide) (fun A4 h => ?_)
  refine r_aload_n 55 dX1_init_54 rfl rfl lo0 ?_
  refine r_iconst 56 dX1_init_55 rfl ic_3 ?_
  refine ri_new (k := 4) (N := 3) 58 61 dX1_init_56 rfl dX1_init_58 rfl h rfl (g0_n (by decide)) g_X1_22_1 fw_1_8 fo_1_8 rfl so8 (Nat.le_of_ble_eq_true rfl) (by decide) (by decide) (by decide) (fun A5 h => ?_)
  refine r_aload_n 62 dX1_init_61 rfl rfl lo0 ?_
  refine r_iconst 63 dX1_init_62 rfl ic_3 ?_
  refine ri_new (k := 5) (N := 3) 65 68 dX1_init_63 rfl dX1_init_65 rfl h rfl (g0_n (by decide)) g_X1_25_1 fw_1_9 fo_1_9 rfl so9 (Nat.le_of_ble_eq_true rfl) (by decide) (by decide) (by decide) (fun A6 h => ?_)
  refine r_aload_n 69 dX1_init_68 rfl rfl lo0 ?_
  refine r_iconst 70 dX1_init_69 rfl ic_3 ?_
  refine ri_new (k := 6) (N := 3) 72 75 dX1_init_70 rfl dX1_init_72 rfl h rfl (g0_n (by decide)) g_X1_28_1 fw_1_13 fo_1_13 rfl so13 (Nat.le_of_ble_eq_true rfl) (by decide) (by decide) (by decide) (fun A7 h => ?_)
  refine r_aload_n 76 dX1_init_75 rfl rfl lo0 ?_
  refine r_iconst 77 dX1_init_76 rfl ic_3 ?_
  refine ri_new (k := 7) (N := 3) 79 82 dX1_init_77 rfl dX1_init_79 rfl h rfl (g0_n (by decide)) g_X1_31_1 fw_1_14 fo_1_14 rfl so14 (Nat.le_of_ble_eq_true rfl) (by decide) (by decide) (by decide) (fun A8 h => ?_)
  refine r_aload_n 83 dX1_init_82 rfl rfl lo0 ?_
  refine r_iconst 84 dX1_init_83 rfl ic_3 ?_
  refine ri_new (k := 8) (N := 3) 86 89 dX1_init_84 rfl dX1_init_86 rfl h rfl (g0_n (by decide)) g_X1_34_1 fw_1_15 fo_1_15 rfl so15 (Nat.le_of_ble_eq_true rfl) (by decide) (by decide) (by decide) (fun A9 h => ?_)
  refine r_aload_n 90 dX1_init_89 rfl rfl lo0 ?_
  refine r_bipush 92 dX1_init_90 rfl bi_10 ?_
  refine ri_new (k := 9) (N := 10) 94 97 dX1_init_92 rfl dX1_init_94 rfl h rfl (g0_n (by decide)) g_X1_37_1 fw_1_17 fo_1_17 rfl so17 (Nat.le_of_ble_eq_true rfl) (by decide) (by decide) (by decide) (fun A10 h => ?_)
  refine r_aload_n 98 dX1_init_97 rfl rfl lo0 ?_
  refine r_bipush 100 dX1_init_98 rfl bi_10 ?_
  refine ri_new (k := 10) (N := 10) 102 105 dX1_init_100 rfl dX1_init_102 rfl h rfl (g0_n (by decide)) g_X1_40_1 fw_1_18 fo_1_18 rfl so18 (Nat.le_of_ble_eq_true rfl) (by decide) (by decide) (by decide) (fun A11 h => ?_)
  refine r_aload_n 106 dX1_init_105 rfl rfl lo0 ?_
  refine r_bipush 108 dX1_init_106 rfl bi_10 ?_
  refine ri_new (k := 11) (N := 10) 110 113 dX1_init_108 rfl dX1_init_110 rfl h rfl (g0_n (by decide)) g_X1_43_1 fw_1_19 fo_1_19 rfl so19 (Nat.le_of_ble_eq_true rfl) (by decide) (by decide) (by decide) (fun A12 h => ?_)
  refine r_aload_n 114 dX1_init_113 rfl rfl lo0 ?_
  refine r_bipush 116 dX1_init_114 rfl bi_10 ?_
  refine ri_new (k := 12) (N := 10) 118 121 dX1_init_116 rfl dX1_init_118 rfl h rfl (g0_n (by decide)) g_X1_46_1 fw_1_20 fo_1_20 rfl so20 (Nat.le_of_ble_eq_true rfl) (by decide) (by decide) (by decide) (fun A13 h => ?_)
  refine r_aload_n 122 dX1_init_121 rfl rfl lo0 ?_
  refine r_bipush 124 dX1_init_122 rfl bi_10 ?_
  refine ri_new (k := 13) (N := 10) 126 129 dX1_init_124 rfl dX1_init_126 rfl h rfl (g0_n (by decide)) g_X1_49_1 fw_1_21 fo_1_21 rfl so21 (Nat.le_of_ble_eq_true rfl) (by decide) (by decide) (by decide) (fun A14 h => ?_)
  refine r_aload_n 130 dX1_init_129 rfl rfl lo0 ?_
  refine r_bipush 132 dX1_init_130 rfl bi_10 ?_
  refine ri_new (k := 14) (N := 10) 134 137 dX1_init_132 rfl dX1_init_134 rfl h rfl (g0_n (by decide)) g_X1_52_1 fw_1_22 fo_1_22 rfl so22 (Nat.le_of_ble_eq_true rfl) (by decide) (by decide) (by decide) (fun A15 h => ?_)
  refine r_aload_n 138 dX1_init_137 rfl rfl lo0 ?_
  refine r_sipush 141 dX1_init_138 rfl si_20010 ?_
  refine ri_new (k := 15) (N := 20010) 143 146 dX1_init_141 rfl dX1_init_143 rfl h rfl (g0_n (by decide)) g_X1_55_1 fw_1_23 fo_1_23 rfl so23 (Nat.le_of_ble_eq_true rfl) (by decide) (by decide) (by decide) (fun A16 h => ?_)
  refine r_aload_n 147 dX1_init_146 rfl rfl lo0 ?_
  refine r_bipush 149 dX1_init_147 rfl bi_10 ?_
  refine ri_new (k := 16) (N := 10) 151 154 dX1_init_149 rfl dX1_init_151 rfl h rfl (g0_n (by decide)) g_X1_58_1 fw_1_24 fo_1_24 rfl so24 (Nat.le_of_ble_eq_true rfl) (by decide) (by decide) (by decide) (fun A17 h => ?_)
  refine r_aload_n 155 dX1_init_154 rfl rfl lo0 ?_
  refine r_bipush 157 dX1_init_155 rfl bi_6 ?_
  refine ri_new (k := 17) (N := 6) 159 162 dX1_init_157 rfl dX1_init_159 rfl h rfl (g0_n (by decide)) g_X1_61_1 fw_1_25 fo_1_25 rfl so25 (Nat.le_of_ble_eq_true rfl) (by decide) (by decide) (by decide) (fun A18 h => ?_)
  refine r_aload_n 163 dX1_init_162 rfl rfl lo0 ?_
  refine r_bipush 165 dX1_init_163 rfl bi_8 ?_
  refine ri_new (k := 18) (N := 8) 167 170 dX1_init_165 rfl dX1_init_167 rfl h rfl (g0_n (by decide)) g_X1_64_1 fw_1_27 fo_1_27 rfl so27 (Nat.le_of_ble_eq_true rfl) (by decide) (by decide) (by decide) (fun A19 h => ?_)
  refine r_aload_n 171 dX1_init_170 rfl rfl lo0 ?_
  refine r_iconst 172 dX1_init_171 rfl ic_5 ?_
  refine ri_new (k := 19) (N := 5) 174 177 dX1_init_172 rfl dX1_init_174 rfl h rfl (g0_n (by decide)) g_X1_67_1 fw_1_28 fo_1_28 rfl so28 (Nat.le_of_ble_eq_true rfl) (by decide) (by decide) (by decide) (fun A20 h => ?_)
  refine r_aload_n 178 dX1_init_177 rfl rfl lo0 ?_
  refine r_iconst 179 dX1_init_178 rfl ic_5 ?_
  refine ri_new (k := 20) (N := 5) 181 184 dX1_init_179 rfl dX1_init_181 rfl h rfl (g0_n (by decide)) g_X1_70_1 fw_1_29 fo_1_29 rfl so29 (Nat.le_of_ble_eq_true rfl) (by decide) (by decide) (by decide) (fun A21 h => ?_)
  refine r_aload_n 185 dX1_init_184 rfl rfl lo0 ?_
  refine r_bipush 187 dX1_init_185 rfl bi_6 ?_
  refine ri_new (k := 21) (N := 6) 189 192 dX1_init_187 rfl dX1_init_189 rfl h rfl (g0_n (by decide)) g_X1_73_1 fw_1_30 fo_1_30 rfl so30 (Nat.le_of_ble_eq_true rfl) (by decide) (by decide) (by decide) (fun A22 h => ?_)
  exact r_vret dX1_init_192 rfl (Nat.le_refl _) (by decide) ⟨rfl, ⟨(fun _ => 0), g0⟩, ⟨h.1, h.2.2.1⟩, MS0, h.2.1, h.2.2.2⟩
