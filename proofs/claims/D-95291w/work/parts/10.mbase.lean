/-! THE REFERENCE'S WORLD: MR w A m: at mb w its object, behind it its 22 arrays; m.1: its ints by the field's number, m.2: its arrays by their places -/
set_option maxRecDepth 100000
abbrev MT : Type := (Nat → Int32) × (Nat → Nat → Int32)
abbrev mb (w : WE) : Nat := wb w + 21
abbrev mf (b : Nat) (sc : Nat → Int32) : List Value := [.int (sc 0), .int (sc 1), .ref (b + 1), .ref (b + 2), .ref (b + 3), .int (sc 5), .int (sc 6), .ref (b + 4), .ref (b + 5), .ref (b + 6), .int (sc 10), .int (sc 11), .int (sc 12), .ref (b + 7), .ref (b + 8), .ref (b + 9), .int (sc 16), .ref (b + 10), .ref (b + 11), .ref (b + 12), .ref (b + 13), .ref (b + 14), .ref (b + 15), .ref (b + 16), .ref (b + 17), .ref (b + 18), .int (sc 26), .ref (b + 19), .ref (b + 20), .ref (b + 21), .ref (b + 22)]
def mL : Nat → Nat := fun k => match k with
  | 1 => 4
  | 2 => 4
  | 3 => 240
  | 4 => 3
  | 5 => 3
  | 6 => 3
  | 7 => 3
  | 8 => 3
  | 9 => 3
  | 10 => 10
  | 11 => 10
  | 12 => 10
  | 13 => 10
  | 14 => 10
  | 15 => 10
  | 16 => 20010
  | 17 => 10
  | 18 => 6
  | 19 => 8
  | 20 => 5
  | 21 => 5
  | 22 => 6
  | _ => 0
def MR (w : WE) (A : Hp) (m : MT) : Prop := A.1 (mb w) = some (.inr (1, mf (mb w) m.1)) ∧ ∀ k, 1 ≤ k → k ≤ 22 → A.1 (mb w + k) = some (eI w 0 (mL k) (m.2 k))
/-- nothing has changed but in the reference's block -/
def Fm (w : WE) (A A' : Hp) : Prop := A'.2 = A.2 ∧ ∀ q : Nat, (q < mb w ∨ mb w + 22 < q) → A'.1 q = A.1 q
theorem Fm.rf {w : WE} {A : Hp} : Fm w A A := ⟨rfl, fun _ _ => rfl⟩
theorem Fm.tr {w : WE} {A B C : Hp} (h1 : Fm w A B) (h2 : Fm w B C) : Fm w A C := ⟨h2.1.trans h1.1, fun q hq => (h2.2 q hq).trans (h1.2 q hq)⟩
theorem Fm.up {w : WE} {A : Hp} {a : Nat} {e : va_E} (h1 : mb w ≤ a) (h2 : a ≤ mb w + 22) : Fm w A (hp_up A a e) := ⟨rfl, fun q hq => hp_up_n (by omega)⟩
theorem MR.t {w : WE} {A : Hp} {m : MT} (h : MR w A m) : A.1 (mb w) = some (.inr (1, mf (mb w) m.1)) := h.1
theorem MR.a1 {w : WE} {A : Hp} {m : MT} (h : MR w A m) : A.1 (mb w + 1) = some (eI w 0 4 (m.2 1)) := h.2 1 (by decide) (by decide)
theorem MR.a2 {w : WE} {A : Hp} {m : MT} (h : MR w A m) : A.1 (mb w + 2) = some (eI w 0 4 (m.2 2)) := h.2 2 (by decide) (by decide)
theorem MR.a3 {w : WE} {A : Hp} {m : MT} (h : MR w A m) : A.1 (mb w + 3) = some (eI w 0 240 (m.2 3)) := h.2 3 (by decide) (by decide)
theorem MR.a4 {w : WE} {A : Hp} {m : MT} (h : MR w A m) : A.1 (mb w + 4) = some (eI w 0 3 (m.2 4)) := h.2 4 (by decide) (by decide)
theorem MR.a5 {w : WE} {A : Hp} {m : MT} (h : MR w A m) : A.1 (mb w + 5) = some (eI w 0 3 (m.2 5)) := h.2 5 (by decide) (by decide)
theorem MR.a6 {w : WE} {A : Hp} {m : MT} (h : MR w A m) : A.1 (mb w + 6) = some (eI w 0 3 (m.2 6)) := h.2 6 (by decide) (by decide)
theorem MR.a7 {w : WE} {A : Hp} {m : MT} (h : MR w A m) : A.1 (mb w + 7) = some (eI w 0 3 (m.2 7)) := h.2 7 (by decide) (by decide)
theorem MR.a8 {w : WE} {A : Hp} {m : MT} (h : MR w A m) : A.1 (mb w + 8) = some (eI w 0 3 (m.2 8)) := h.2 8 (by decide) (by decide)
theorem MR.a9 {w : WE} {A : Hp} {m : MT} (h : MR w A m) : A.1 (mb w + 9) = some (eI w 0 3 (m.2 9)) := h.2 9 (by decide) (by decide)
theorem MR.a10 {w : WE} {A : Hp} {m : MT} (h : MR w A m) : A.1 (mb w + 10) = some (eI w 0 10 (m.2 10)) := h.2 10 (by decide) (by decide)
theorem MR.a11 {w : WE} {A : Hp} {m : MT} (h : MR w A m) : A.1 (mb w + 11) = some (eI w 0 10 (m.2 11)) := h.2 11 (by decide) (by decide)
theorem MR.a12 {w : WE} {A : Hp} {m : MT} (h : MR w A m) : A.1 (mb w + 12) = some (eI w 0 10 (m.2 12)) := h.2 12 (by decide) (by decide)
theorem MR.a13 {w : WE} {A : Hp} {m : MT} (h : MR w A m) : A.1 (mb w + 13) = some (eI w 0 10 (m.2 13)) := h.2 13 (by decide) (by decide)
theorem MR.a14 {w : WE} {A : Hp} {m : MT} (h : MR w A m) : A.1 (mb w + 14) = some (eI w 0 10 (m.2 14)) := h.2 14 (by decide) (by decide)
theorem MR.a15 {w : WE} {A : Hp} {m : MT} (h : MR w A m) : A.1 (mb w + 15) = some (eI w 0 10 (m.2 15)) := h.2 15 (by decide) (by decide)
theorem MR.a16 {w : WE} {A : Hp} {m : MT} (h : MR w A m) : A.1 (mb w + 16) = some (eI w 0 20010 (m.2 16)) := h.2 16 (by decide) (by decide)
theorem MR.a17 {w : WE} {A : Hp} {m : MT} (h : MR w A m) : A.1 (mb w + 17) = some (eI w 0 10 (m.2 17)) := h.2 17 (by decide) (by decide)
theorem MR.a18 {w : WE} {A : Hp} {m : MT} (h : MR w A m) : A.1 (mb w + 18) = some (eI w 0 6 (m.2 18)) := h.2 18 (by decide) (by decide)
theorem MR.a19 {w : WE} {A : Hp} {m : MT} (h : MR w A m) : A.1 (mb w + 19) = some (eI w 0 8 (m.2 19)) := h.2 19 (by decide) (by decide)
theorem MR.a20 {w : WE} {A : Hp} {m : MT} (h : MR w A m) : A.1 (mb w + 20) = some (eI w 0 5 (m.2 20)) := h.2 20 (by decide) (by decide)
theorem MR.a21 {w : WE} {A : Hp} {m : MT} (h : MR w A m) : A.1 (mb w + 21) = some (eI w 0 5 (m.2 21)) := h.2 21 (by decide) (by decide)
theorem MR.a22 {w : WE} {A : Hp} {m : MT} (h : MR w A m) : A.1 (mb w + 22) = some (eI w 0 6 (m.2 22)) := h.2 22 (by decide) (by decide)
theorem MR.set {w : WE} {A : Hp} {m : MT} (h : MR w A m) {k : Nat} (h1 : 1 ≤ k) (h2 : k ≤ 22) (f : Nat → Int32) : MR w (hp_up A (mb w + k) (eI w 0 (mL k) f)) (m.1, va_up m.2 k f) := by
  refine ⟨(hp_up_n (by omega)).trans h.1, fun j j1 j2 => ?_⟩
  by_cases e : j = k
  · subst e
    rw [hp_up_s]
    simp [va_up]
  · rw [hp_up_n (by omega), h.2 j j1 j2]
    simp [va_up, e]
theorem MR.sc {w : WE} {A : Hp} {m : MT} (h : MR w A m) (sc : Nat → Int32) : MR w (hp_up A (mb w) (.inr (1, mf (mb w) sc))) (sc, m.2) := by
  refine ⟨hp_up_s, fun j j1 j2 => ?_⟩
  rw [hp_up_n (by omega)]
  exact h.2 j j1 j2
/-- the answer r, the reference's world m' behind it -/
abbrev QM (w : WE) (A : Hp) (P : Option Value → MT → Prop) : Option Value → Hp → Prop := fun v A' => ∃ m' : MT, P v m' ∧ MR w A' m' ∧ Fm w A A'
section MROWS
variable {w : WE} {M : MI} {R : Room} {Z : ZT} {k n : Nat} {A A0 : Hp} {pc : Nat} {lo : List (Option Value)} {st : List Value} {m : MT}
theorem rm_iast {kk N : Nat} {i x : Int32} (nx : Nat) (hd : decode M.2.1 pc = .ok (.iastore, 1)) (hn : pc + 1 = nx) (hm : MR w A m) (hF : Fm w A0 A) (h1 : 1 ≤ kk) (h2 : kk ≤ 22) (j : Nat) (hi : i = nI j) (hN : mL kk = N) (hj : j < N) (hb : N < 2 ^ 31)
    (K : ∀ A' : Hp, MR w A' (m.1, va_up m.2 kk (upd (m.2 kk) j x)) → Fm w A0 A' → Rn w M R Z k n A' nx lo st) : Rn w M R Z k n A pc lo (.int x :: .int i :: .ref (mb w + kk) :: st) := by
  subst hN
  exact r_iast nx hd hn (hm.2 kk h1 h2) (by show wb w ≤ wb w + 21 + kk; omega) j hi hj hb (K _ (hm.set h1 h2 _) (hF.tr (Fm.up (by omega) (by omega))))
theorem rm_put {idx kf : Nat} {x : Int32} (nx : Nat) (hd : decode M.2.1 pc = .ok (.putfield idx, 3)) (hn : pc + 3 = nx) (hm : MR w A m) (hF : Fm w A0 A) (S : SiteG M.1.cls idx 1 kf) (SF : FldW 1 kf false .int) (hs : (mf (mb w) m.1).set kf (.int x) = mf (mb w) (va_up m.1 kf x)) (hl : kf < 31)
    (K : ∀ A' : Hp, MR w A' (va_up m.1 kf x, m.2) → Fm w A0 A' → Rn w M R Z k n A' nx lo st) : Rn w M R Z k n A pc lo (.int x :: .ref (mb w) :: st) :=
  r_put nx hd hn S cw_1 SF hm.t (by show wb w ≤ wb w + 21; omega) hs hl rfl rfl (K _ (hm.sc _) (hF.tr (Fm.up (by omega) (by omega))))
variable {M' : MI} {d' idx b ci : Nat} {P : Option Value → MT → Prop}
theorem rm_c0 (nx : Nat) (hd : decode M.2.1 pc = .ok (.invokevirtual idx, 3)) (hn : pc + 3 = nx) (S : SiteV M.1.cls idx 1 M' 0) (hm : MR w A m) (hF : Fm w A0 A) (hok : cOk R M'.2.2.1 d' 0 0 k n st = true) (hE : Ev w M' d' 0 0 [.ref (mb w)] A (QM w A P)) (K : ∀ (A' : Hp) (v : Option Value) (m' : MT), P v m' → MR w A' m' → Fm w A0 A' → Rn w M R Z k n A' nx lo (v.toList ++ st)) : Rn w M R Z k n A pc lo (.ref (mb w) :: st) :=
  r_callV (As := []) (st := st) rfl nx hd hn S hm.t hok rfl hE (fun v A' h => by obtain ⟨m', hp, hm', hF'⟩ := h; exact K A' v m' hp hm' (hF.tr hF'))
theorem rm_c1 {v0 : Value} (nx : Nat) (hd : decode M.2.1 pc = .ok (.invokevirtual idx, 3)) (hn : pc + 3 = nx) (S : SiteV M.1.cls idx 1 M' 1) (hm : MR w A m) (hF : Fm w A0 A) (hok : cOk R M'.2.2.1 d' 0 0 k n st = true) (hE : Ev w M' d' 0 0 [.ref (mb w), v0] A (QM w A P)) (K : ∀ (A' : Hp) (v : Option Value) (m' : MT), P v m' → MR w A' m' → Fm w A0 A' → Rn w M R Z k n A' nx lo (v.toList ++ st)) : Rn w M R Z k n A pc lo (v0 :: .ref (mb w) :: st) :=
  r_callV (As := [v0]) (st := st) rfl nx hd hn S hm.t hok rfl hE (fun v A' h => by obtain ⟨m', hp, hm', hF'⟩ := h; exact K A' v m' hp hm' (hF.tr hF'))
theorem rm_c2 {v0 v1 : Value} (nx : Nat) (hd : decode M.2.1 pc = .ok (.invokevirtual idx, 3)) (hn : pc + 3 = nx) (S : SiteV M.1.cls idx 1 M' 2) (hm : MR w A m) (hF : Fm w A0 A) (hok : cOk R M'.2.2.1 d' 0 0 k n st = true) (hE : Ev w M' d' 0 0 [.ref (mb w), v0, v1] A (QM w A P)) (K : ∀ (A' : Hp) (v : Option Value) (m' : MT), P v m' → MR w A' m' → Fm w A0 A' → Rn w M R Z k n A' nx lo (v.toList ++ st)) : Rn w M R Z k n A pc lo (v1 :: v0 :: .ref (mb w) :: st) :=
  r_callV (As := [v0, v1]) (st := st) rfl nx hd hn S hm.t hok rfl hE (fun v A' h => by obtain ⟨m', hp, hm', hF'⟩ := h; exact K A' v m' hp hm' (hF.tr hF'))
theorem rm_c3 {v0 v1 v2 : Value} (nx : Nat) (hd : decode M.2.1 pc = .ok (.invokevirtual idx, 3)) (hn : pc + 3 = nx) (S : SiteV M.1.cls idx 1 M' 3) (hm : MR w A m) (hF : Fm w A0 A) (hok : cOk R M'.2.2.1 d' 0 0 k n st = true) (hE : Ev w M' d' 0 0 [.ref (mb w), v0, v1, v2] A (QM w A P)) (K : ∀ (A' : Hp) (v : Option Value) (m' : MT), P v m' → MR w A' m' → Fm w A0 A' → Rn w M R Z k n A' nx lo (v.toList ++ st)) : Rn w M R Z k n A pc lo (v2 :: v1 :: v0 :: .ref (mb w) :: st) :=
  r_callV (As := [v0, v1, v2]) (st := st) rfl nx hd hn S hm.t hok rfl hE (fun v A' h => by obtain ⟨m', hp, hm', hF'⟩ := h; exact K A' v m' hp hm' (hF.tr hF'))
theorem rm_c4 {v0 v1 v2 v3 : Value} (nx : Nat) (hd : decode M.2.1 pc = .ok (.invokevirtual idx, 3)) (hn : pc + 3 = nx) (S : SiteV M.1.cls idx 1 M' 4) (hm : MR w A m) (hF : Fm w A0 A) (hok : cOk R M'.2.2.1 d' 0 0 k n st = true) (hE : Ev w M' d' 0 0 [.ref (mb w), v0, v1, v2, v3] A (QM w A P)) (K : ∀ (A' : Hp) (v : Option Value) (m' : MT), P v m' → MR w A' m' → Fm w A0 A' → Rn w M R Z k n A' nx lo (v.toList ++ st)) : Rn w M R Z k n A pc lo (v3 :: v2 :: v1 :: v0 :: .ref (mb w) :: st) :=
  r_callV (As := [v0, v1, v2, v3]) (st := st) rfl nx hd hn S hm.t hok rfl hE (fun v A' h => by obtain ⟨m', hp, hm', hF'⟩ := h; exact K A' v m' hp hm' (hF.tr hF'))
theorem rm_c5 {v0 v1 v2 v3 v4 : Value} (nx : Nat) (hd : decode M.2.1 pc = .ok (.invokevirtual idx, 3)) (hn : pc + 3 = nx) (S : SiteV M.1.cls idx 1 M' 5) (hm : MR w A m) (hF : Fm w A0 A) (hok : cOk R M'.2.2.1 d' 0 0 k n st = true) (hE : Ev w M' d' 0 0 [.ref (mb w), v0, v1, v2, v3, v4] A (QM w A P)) (K : ∀ (A' : Hp) (v : Option Value) (m' : MT), P v m' → MR w A' m' → Fm w A0 A' → Rn w M R Z k n A' nx lo (v.toList ++ st)) : Rn w M R Z k n A pc lo (v4 :: v3 :: v2 :: v1 :: v0 :: .ref (mb w) :: st) :=
  r_callV (As := [v0, v1, v2, v3, v4]) (st := st) rfl nx hd hn S hm.t hok rfl hE (fun v A' h => by obtain ⟨m', hp, hm', hF'⟩ := h; exact K A' v m' hp hm' (hF.tr hF'))
end MROWS
