/-! THE CLASS's WORLD: its object at wb w, its lists, rows and sheets -/
set_option maxRecDepth 100000
abbrev moF (q : Mo) : List Value := [.int (nI q.1), .int (nI q.2.1), .int (nI q.2.2)]
abbrev rdF (b k : Nat) (q : Rd) : List Value := .int (nI k) :: .int (nI q.2.1) :: .int (nI q.2.2.1) :: .int (nI q.2.2.2.1) :: .int (nI q.2.2.2.2.1) :: .int (nI q.2.2.2.2.2) :: List.replicate (q.1 + 1) (.ref b)
abbrev rdE (b k : Nat) (q : Rd) : va_E := .inr (3 + q.1, rdF b k q)
/-- a cell that a call made -/
abbrev dyn (w : WE) (a : Nat) : Prop := mb w + 22 < a
/-- ints by field, rows by place, the lists' rows, where the moons lie, the roads, the sheets (and their rows) -/
abbrev XT : Type := (Nat → Int32) × (Nat → Nat → Int32) × (Nat × Nat) × (Nat → Nat) × (Nat → Nat) × (Nat → Option (Nat × Nat))
abbrev xf (b : Nat) (sc : Nat → Int32) : List Value := [.int (sc 0), .ref (b + 1), .int (sc 2), .ref (b + 2), .ref (b + 3), .ref (b + 4), .ref (b + 15), .ref (b + 16), .ref (b + 17), .ref (b + 18), .int (sc 10), .ref (b + 19), .int (sc 12), .ref (b + 20)]
def xL : Nat → Nat := fun k => if k = 3 then 2000 else if k ≤ 14 then 2001 else 6
def xk (k : Nat) : Prop := k = 3 ∨ (5 ≤ k ∧ k ≤ 19)
/-- the list at a with the row e: its n members lie at ad 0, ad 1 .. -/
def LsR (w : WE) (A : Hp) (a e n : Nat) (ad : Nat → Nat) : Prop := ∃ (c : Int32) (cap : Nat) (g : Nat → Option Nat), A.1 a = some (.inr (7, alF c e n)) ∧ A.1 e = some (eR w 5 cap g) ∧ ((dyn w e ∧ cap = 10) ∨ (e = de w ∧ cap = 0 ∧ g = fun _ => none)) ∧ n ≤ cap ∧ ∀ i, i < n → g i = some (ad i)
def MoX (w : WE) (A : Hp) (ma : Nat → Nat) (ms : List Mo) : Prop := ∀ i q, ms[i]? = some q → dyn w (ma i) ∧ A.1 (ma i) = some (.inr (2, moF q))
def RdX (w : WE) (A : Hp) (ra : Nat → Nat) (rs : List Rd) : Prop := ∀ i q, rs[i]? = some q → dyn w (ra i) ∧ A.1 (ra i) = some (rdE (wb w) i q)
/-- the array's kind of a lane -/
def ln (l : Nat) : Nat := if l = 0 then 1 else if l = 1 then 2 else 0
def ShX (w : WE) (A : Hp) (sa : Nat → Option (Nat × Nat)) (sh : Nat → Option Sh) : Prop := A.1 (wb w + 20) = some (eR w 4 4 (fun k => (sa k).map (fun p => p.1))) ∧ (∀ k, k < 4 → (sh k = none ∧ sa k = none) ∨ ∃ (q : Sh) (p : Nat × Nat) (f : Nat → Int32), sh k = some q ∧ sa k = some p ∧ q.1 ≤ 2 ∧ q.2.1 ≤ 60 ∧ dyn w p.1 ∧ dyn w p.2 ∧ A.1 p.1 = some (.inr (6, [.ref p.2])) ∧ A.1 p.2 = some (eI w (ln q.1) q.2.1 f) ∧ ∀ i, i < q.2.1 → f i = q.2.2 i) ∧ ∀ j k p p', j < 4 → k < 4 → j ≠ k → sa j = some p → sa k = some p' → p.2 ≠ p'.2
def StOk (S : ST) : Prop := SOk S ∧ S.2.1.length ≤ 3 ∧ (∀ q ∈ S.2.1, MoOk q) ∧ S.2.2.1.length ≤ 10 ∧ ∀ q ∈ S.2.2.1, RdOk S.1 q
/-- the class's world holds the state S -/
def XS (w : WE) (A : Hp) (x : XT) (S : ST) : Prop :=
  (A.1 (wb w) = some (.inr (0, xf (wb w) x.1)) ∧ (∀ k, xk k → A.1 (wb w + k) = some (eI w 0 (xL k) (x.2.1 k))) ∧ A.1 (wb w + 4) = some (eR w 3 10 (fun i => some (wb w + (5 + i))))) ∧
  (LsR w A (wb w + 1) x.2.2.1.1 S.2.1.length x.2.2.2.1 ∧ MoX w A x.2.2.2.1 S.2.1) ∧
  (LsR w A (wb w + 2) x.2.2.1.2 S.2.2.1.length x.2.2.2.2.1 ∧ RdX w A x.2.2.2.2.1 S.2.2.1) ∧
  ShX w A x.2.2.2.2.2 S.2.2.2.2.2 ∧
  ((x.2.2.1.1 = x.2.2.1.2 → x.2.2.1.1 = de w) ∧ x.1 0 = nI S.1 ∧ x.1 2 = S.2.2.2.1 ∧ x.1 12 = S.2.2.2.2.1) ∧
  (A.1 (de w) = some (eR w 5 0 (fun _ => none)) ∧ KD w ∧ de w < wb w) ∧ StOk S
/-- the reference's block is as it was -/
def Fx (w : WE) (A A' : Hp) : Prop := A.2 ≤ A'.2 ∧ ∀ q, mb w ≤ q → q ≤ mb w + 22 → A'.1 q = A.1 q
theorem Fx.rf {w : WE} {A : Hp} : Fx w A A := ⟨Nat.le_refl _, fun _ _ _ => rfl⟩
theorem Fx.tr {w : WE} {A B C : Hp} (h1 : Fx w A B) (h2 : Fx w B C) : Fx w A C := ⟨Nat.le_trans h1.1 h2.1, fun q a b => (h2.2 q a b).trans (h1.2 q a b)⟩
theorem Fx.up {w : WE} {A : Hp} {a : Nat} {e : va_E} (h : a < mb w ∨ mb w + 22 < a) : Fx w A (hp_up A a e) := ⟨Nat.le_refl _, fun q h1 h2 => hp_up_n (by omega)⟩
theorem Fx.new {w : WE} {A : Hp} {e : va_E} (h : mb w + 22 < A.2) : Fx w A (hp_new A e) := ⟨Nat.le_succ _, fun q h1 h2 => hp_new_n (by omega)⟩
section XW
variable {w : WE} {A A' : Hp} {x : XT} {S : ST}
theorem XS.t (h : XS w A x S) : A.1 (wb w) = some (.inr (0, xf (wb w) x.1)) := h.1.1
theorem XS.ar (h : XS w A x S) {k : Nat} (hk : xk k) : A.1 (wb w + k) = some (eI w 0 (xL k) (x.2.1 k)) := h.1.2.1 k hk
theorem XS.s4 (h : XS w A x S) : A.1 (wb w + 4) = some (eR w 3 10 (fun i => some (wb w + (5 + i)))) := h.1.2.2
theorem XS.ml (h : XS w A x S) : LsR w A (wb w + 1) x.2.2.1.1 S.2.1.length x.2.2.2.1 := h.2.1.1
theorem XS.mo (h : XS w A x S) : MoX w A x.2.2.2.1 S.2.1 := h.2.1.2
theorem XS.rl (h : XS w A x S) : LsR w A (wb w + 2) x.2.2.1.2 S.2.2.1.length x.2.2.2.2.1 := h.2.2.1.1
theorem XS.rd (h : XS w A x S) : RdX w A x.2.2.2.2.1 S.2.2.1 := h.2.2.1.2
theorem XS.sh (h : XS w A x S) : ShX w A x.2.2.2.2.2 S.2.2.2.2.2 := h.2.2.2.1
theorem XS.il (h : XS w A x S) : x.1 0 = nI S.1 := h.2.2.2.2.1.2.1
theorem XS.tr (h : XS w A x S) : x.1 2 = S.2.2.2.1 := h.2.2.2.2.1.2.2.1
theorem XS.fa (h : XS w A x S) : x.1 12 = S.2.2.2.2.1 := h.2.2.2.2.1.2.2.2
theorem XS.ok (h : XS w A x S) : StOk S := h.2.2.2.2.2.2
theorem XS.le (h : XS w A x S) : S.1 ≤ 6 := h.ok.1.le
theorem XS.a3 (h : XS w A x S) : A.1 (wb w + 3) = some (eI w 0 2000 (x.2.1 3)) := h.ar (Or.inl rfl)
theorem XS.a15 (h : XS w A x S) : A.1 (wb w + 15) = some (eI w 0 6 (x.2.1 15)) := h.ar (Or.inr (by decide))
theorem XS.a16 (h : XS w A x S) : A.1 (wb w + 16) = some (eI w 0 6 (x.2.1 16)) := h.ar (Or.inr (by decide))
theorem XS.a17 (h : XS w A x S) : A.1 (wb w + 17) = some (eI w 0 6 (x.2.1 17)) := h.ar (Or.inr (by decide))
theorem XS.a18 (h : XS w A x S) : A.1 (wb w + 18) = some (eI w 0 6 (x.2.1 18)) := h.ar (Or.inr (by decide))
theorem XS.a19 (h : XS w A x S) : A.1 (wb w + 19) = some (eI w 0 6 (x.2.1 19)) := h.ar (Or.inr (by decide))
theorem XS.row (h : XS w A x S) {r : Nat} (hr : r < 10) : A.1 (wb w + (5 + r)) = some (eI w 0 2001 (x.2.1 (5 + r))) := by
  have e : xL (5 + r) = 2001 := by
    unfold xL
    rw [if_neg (by omega), if_pos (by omega)]
  have := h.ar (k := 5 + r) (Or.inr (by omega))
  rw [e] at this
  exact this
/-- two heaps that agree on q: what A has there A' has -/
abbrev Kp (A A' : Hp) (q : Nat) : Prop := ∀ e, A.1 q = some e → A'.1 q = some e
theorem LsR.keep {a e n : Nat} {ad : Nat → Nat} (h : LsR w A a e n ad) (h1 : Kp A A' a) (h2 : Kp A A' e) : LsR w A' a e n ad := by
  obtain ⟨c, cap, g, a1, a2, a3⟩ := h
  exact ⟨c, cap, g, h1 _ a1, h2 _ a2, a3⟩
theorem LsR.ed {a e n : Nat} {ad : Nat → Nat} (h : LsR w A a e n ad) : dyn w e ∨ e = de w := by
  obtain ⟨c, cap, g, a1, a2, a3, a4⟩ := h
  rcases a3 with h | h
  · exact Or.inl h.1
  · exact Or.inr h.1
theorem MoX.keep {ma : Nat → Nat} {ms : List Mo} (h : MoX w A ma ms) (hk : ∀ q, dyn w q → Kp A A' q) : MoX w A' ma ms := fun i q hq => ⟨(h i q hq).1, hk _ (h i q hq).1 _ (h i q hq).2⟩
theorem RdX.keep {ra : Nat → Nat} {rs : List Rd} (h : RdX w A ra rs) (hk : ∀ q, dyn w q → Kp A A' q) : RdX w A' ra rs := fun i q hq => ⟨(h i q hq).1, hk _ (h i q hq).1 _ (h i q hq).2⟩
theorem ShX.keep {sa : Nat → Option (Nat × Nat)} {sh : Nat → Option Sh} (h : ShX w A sa sh) (h0 : Kp A A' (wb w + 20)) (hk : ∀ q, dyn w q → Kp A A' q) : ShX w A' sa sh := by
  obtain ⟨a1, a2, a3⟩ := h
  refine ⟨h0 _ a1, fun k hk4 => ?_, a3⟩
  rcases a2 k hk4 with h | ⟨q, p, f, b1, b2, b3, b4, b5, b6, b7, b8, b9⟩
  · exact Or.inl h
  · exact Or.inr ⟨q, p, f, b1, b2, b3, b4, b5, b6, hk _ b5 _ b7, hk _ b6 _ b8, b9⟩
/-- the class's cells are as they were -/
theorem XS.keep (h : XS w A x S) (hk : ∀ q, (q < mb w ∨ mb w + 22 < q) → Kp A A' q) : XS w A' x S := by
  obtain ⟨⟨a1, a2, a3⟩, ⟨b1, b2⟩, ⟨c1, c2⟩, d, e, ⟨f1, f2, f3⟩, g⟩ := h
  have hb : wb w + 21 = mb w := rfl
  have he : ∀ {a e n : Nat} {ad : Nat → Nat}, LsR w A a e n ad → Kp A A' e := fun h => hk _ (by rcases h.ed with h | h <;> omega)
  have hd : ∀ q, dyn w q → Kp A A' q := fun q hq => hk q (Or.inr hq)
  exact ⟨⟨hk _ (Or.inl (by omega)) _ a1, fun k h => hk _ (Or.inl (by rcases h with h | h <;> omega)) _ (a2 k h), hk _ (Or.inl (by omega)) _ a3⟩, ⟨b1.keep (hk _ (Or.inl (by omega))) (he b1), b2.keep hd⟩, ⟨c1.keep (hk _ (Or.inl (by omega))) (he c1), c2.keep hd⟩, d.keep (hk _ (Or.inl (by omega))) hd, e, ⟨hk _ (Or.inl (by omega)) _ f1, f2, f3⟩, g⟩
theorem XS.fm (h : XS w A x S) (hF : Fm w A A') : XS w A' x S := h.keep (fun q hq e he => (hF.2 q hq).trans he)
theorem XS.new (h : XS w A x S) (hlt : ∀ (q : Nat) (e : va_E), A.1 q = some e → q < A.2) (e : va_E) : XS w (hp_new A e) x S := h.keep (fun q _ y hy => (hp_new_n (Nat.ne_of_lt (hlt q y hy))).trans hy)
theorem kp_up {a q : Nat} {e : va_E} (h : q ≠ a) : Kp A (hp_up A a e) q := fun _ he => (hp_up_n h).trans he
/-- a row of ints is written -/
theorem XS.arr (h : XS w A x S) {k : Nat} (hk : xk k) (f : Nat → Int32) : XS w (hp_up A (wb w + k) (eI w 0 (xL k) f)) (x.1, va_up x.2.1 k f, x.2.2) S := by
  obtain ⟨⟨a1, a2, a3⟩, ⟨b1, b2⟩, ⟨c1, c2⟩, d, e, ⟨f1, f2, f3⟩, g⟩ := h
  have hb : wb w + 21 = mb w := rfl
  have hk3 : 3 ≤ k ∧ k ≠ 4 ∧ k ≤ 19 := by rcases hk with h | h <;> omega
  have he : ∀ {a e n : Nat} {ad : Nat → Nat}, LsR w A a e n ad → Kp A (hp_up A (wb w + k) (eI w 0 (xL k) f)) e := fun h => kp_up (by rcases h.ed with h | h <;> omega)
  have hd : ∀ q, dyn w q → Kp A (hp_up A (wb w + k) (eI w 0 (xL k) f)) q := fun q hq => kp_up (by omega)
  refine ⟨⟨kp_up (by omega) _ a1, fun j hj => ?_, kp_up (by omega) _ a3⟩, ⟨b1.keep (kp_up (by omega)) (he b1), b2.keep hd⟩, ⟨c1.keep (kp_up (by omega)) (he c1), c2.keep hd⟩, d.keep (kp_up (by omega)) hd, e, ⟨kp_up (by omega) _ f1, f2, f3⟩, g⟩
  by_cases ej : j = k
  · subst ej
    rw [hp_up_s]
    simp [va_up]
  · refine (kp_up (by omega) _ (a2 j hj)).trans ?_
    simp [va_up, ej]
/-- a field of the class's object is written -/
theorem XS.sc (h : XS w A x S) {sc : Nat → Int32} {tr fa : Int32} (h1 : sc 0 = nI S.1) (h2 : sc 2 = tr) (h3 : sc 12 = fa) : XS w (hp_up A (wb w) (.inr (0, xf (wb w) sc))) (sc, x.2) (S.1, S.2.1, S.2.2.1, tr, fa, S.2.2.2.2.2) := by
  obtain ⟨⟨a1, a2, a3⟩, ⟨b1, b2⟩, ⟨c1, c2⟩, d, e, ⟨f1, f2, f3⟩, g⟩ := h
  have hb : wb w + 21 = mb w := rfl
  have he : ∀ {a e n : Nat} {ad : Nat → Nat}, LsR w A a e n ad → Kp A (hp_up A (wb w) (.inr (0, xf (wb w) sc))) e := fun h => kp_up (by rcases h.ed with h | h <;> omega)
  have hd : ∀ q, dyn w q → Kp A (hp_up A (wb w) (.inr (0, xf (wb w) sc))) q := fun q hq => kp_up (by omega)
  exact ⟨⟨hp_up_s, fun j hj => kp_up (by rcases hj with h | h <;> omega) _ (a2 j hj), kp_up (by omega) _ a3⟩, ⟨b1.keep (kp_up (by omega)) (he b1), b2.keep hd⟩, ⟨c1.keep (kp_up (by omega)) (he c1), c2.keep hd⟩, d.keep (kp_up (by omega)) hd, ⟨e.1, h1, h2, h3⟩, ⟨kp_up (by omega) _ f1, f2, f3⟩, g⟩
theorem XS.lvl (h : XS w A x S) (t : Nat) : lvl S.2.1 t ≤ 405 := by
  have := lvl_le t h.ok.2.2.1
  have := h.ok.2.1
  omega
theorem XS.mok (h : XS w A x S) {i : Nat} {q : Mo} (hq : S.2.1[i]? = some q) : MoOk q := h.ok.2.2.1 q (List.mem_of_getElem? hq)
theorem XS.rok (h : XS w A x S) {i : Nat} {q : Rd} (hq : S.2.2.1[i]? = some q) : RdOk S.1 q := h.ok.2.2.2.2 q (List.mem_of_getElem? hq)
end XW
section XWR
variable {w : WE} {M : MI} {R : Room} {Z : ZT} {k n : Nat} {A : Hp} {pc : Nat} {lo : List (Option Value)} {st : List Value} {x : XT} {S : ST} {A0 : Hp}
theorem rx_iast {kk N : Nat} {i v : Int32} (nx : Nat) (hd : decode M.2.1 pc = .ok (.iastore, 1)) (hn : pc + 1 = nx) (hx : XS w A x S) (hF : Fx w A0 A) (hk : xk kk) (j : Nat) (hi : i = nI j) (hN : xL kk = N) (hj : j < N) (hb : N < 2 ^ 31)
    (K : ∀ A' : Hp, XS w A' (x.1, va_up x.2.1 kk (upd (x.2.1 kk) j v), x.2.2) S → Fx w A0 A' → Rn w M R Z k n A' nx lo st) : Rn w M R Z k n A pc lo (.int v :: .int i :: .ref (wb w + kk) :: st) := by
  subst hN
  exact r_iast nx hd hn (hx.ar hk) (by omega) j hi hj hb (K _ (hx.arr hk _) (hF.tr (Fx.up (Or.inl (by show wb w + kk < wb w + 21; rcases hk with h | h <;> omega)))))
end XWR
