/-! THE STATE OF BOTH, AND WHAT A CALL ANSWERS -/
set_option maxRecDepth 100000
def ix {α : Type} (l : List α) (x : Int32) : Option α := if 0 ≤ x.toInt then l[x.toInt.toNat]? else none
theorem ix_no {α : Type} {l : List α} {x : Int32} (h : ¬ (0 ≤ x.toInt ∧ x.toInt ≤ (l.length : Int) - 1)) : ix l x = none := by
  unfold ix
  split
  · exact List.getElem?_eq_none (by omega)
  · rfl
theorem ix_ok {α : Type} {l : List α} {x : Int32} (h : 0 ≤ x.toInt ∧ x.toInt ≤ (l.length : Int) - 1) : ∃ (j : Nat) (q : α), j < l.length ∧ x = nI j ∧ l[j]? = some q ∧ ix l x = some q := by
  have hh := i_hi x
  obtain ⟨q, hq⟩ := get_of_lt (l := l) (i := x.toInt.toNat) (by omega)
  exact ⟨x.toInt.toNat, q, by omega, i_of (by omega) (by omega), hq, by unfold ix; rw [if_pos h.1]; exact hq⟩
theorem hr_ok {x : Int32} (h : btw x.toInt 0 1999 = true) : ∃ j : Nat, j < 2000 ∧ x = nI j := by
  have := btw_t.mp h
  exact ⟨x.toInt.toNat, by omega, i_of (by omega) (by omega)⟩
theorem hr_nI {j : Nat} (h : j < 2000) : btw (nI j).toInt 0 1999 = true := btw_t.mpr (by rw [nI_toInt (by omega)]; omega)
theorem nI_nat {j : Nat} (h : j < 2 ^ 31) : (nI j).toInt.toNat = j := by rw [nI_toInt h]; rfl
/-- islands, moons, roads, trace, fault, sheets (lane, length, cells) -/
abbrev ST : Type := Nat × List Mo × List Rd × Int32 × Int32 × (Nat → Option (Nat × Nat × (Nat → Int32)))
def SOk (S : ST) : Prop := ((S.1 = 0 ∧ S.2.1 = [] ∧ S.2.2.1 = []) ∨ (2 ≤ S.1 ∧ S.1 ≤ 6 ∧ 1 ≤ S.2.1.length)) ∧ ∀ q ∈ S.2.2.1, q.2.2.2.2.2 ≤ 10 ∧ (q.1 = 0 → q.2.2.2.2.2 = 0)
def ShR (m : MT) (sh : Nat → Option (Nat × Nat × (Nat → Int32))) : Prop := ∀ k, k < 4 → (sh k = none → m.2 1 k = -9) ∧ ∀ q, sh k = some q → m.2 1 k = nI q.1 ∧ q.1 ≤ 2 ∧ m.2 2 k = nI q.2.1 ∧ q.2.1 ≤ 60 ∧ ∀ i, i < q.2.1 → m.2 3 (60 * k + i) = q.2.2 i
/-- the reference's world holds the state S -/
def MS (m : MT) (S : ST) : Prop := m.1 5 = nI S.1 ∧ MoR m S.2.1 ∧ RdR m S.1 S.2.2.1 ∧ m.1 1 = S.2.2.2.1 ∧ m.1 0 = S.2.2.2.2.1 ∧ ShR m S.2.2.2.2.2 ∧ SOk S
theorem MS.il {m : MT} {S : ST} (h : MS m S) : m.1 5 = nI S.1 := h.1
theorem MS.mo {m : MT} {S : ST} (h : MS m S) : MoR m S.2.1 := h.2.1
theorem MS.rd {m : MT} {S : ST} (h : MS m S) : RdR m S.1 S.2.2.1 := h.2.2.1
theorem MS.tr {m : MT} {S : ST} (h : MS m S) : m.1 1 = S.2.2.2.1 := h.2.2.2.1
theorem MS.fa {m : MT} {S : ST} (h : MS m S) : m.1 0 = S.2.2.2.2.1 := h.2.2.2.2.1
theorem MS.sh {m : MT} {S : ST} (h : MS m S) : ShR m S.2.2.2.2.2 := h.2.2.2.2.2.1
theorem MS.ok {m : MT} {S : ST} (h : MS m S) : SOk S := h.2.2.2.2.2.2
theorem SOk.le {S : ST} (h : SOk S) : S.1 ≤ 6 := by rcases h.1 with h | h <;> omega
theorem SOk.pos {S : ST} (h : SOk S) (h1 : 0 < S.1) : 2 ≤ S.1 ∧ S.1 ≤ 6 ∧ 1 ≤ S.2.1.length := by
  rcases h.1 with h | h
  · omega
  · exact h
/-- the state with another fault -/
abbrev sF (S : ST) (f : Int32) : ST := (S.1, S.2.1, S.2.2.1, S.2.2.2.1, f, S.2.2.2.2.2)
abbrev sR (S : ST) (rs : List Rd) : ST := (S.1, S.2.1, rs, S.2.2.2.1, S.2.2.2.2.1, S.2.2.2.2.2)
abbrev sT (S : ST) (t : Int32) : ST := (S.1, S.2.1, S.2.2.1, t, S.2.2.2.2.1, S.2.2.2.2.2)
theorem MS.fault {m : MT} {S : ST} (h : MS m S) (f : Int32) : MS (va_up m.1 0 f, m.2) (sF S f) := ⟨h.1, h.2.1, h.2.2.1, h.2.2.2.1, rfl, h.2.2.2.2.2.1, h.2.2.2.2.2.2⟩
theorem MS.trace {m : MT} {S : ST} (h : MS m S) (t : Int32) : MS (va_up m.1 1 t, m.2) (sT S t) := ⟨h.1, h.2.1, h.2.2.1, rfl, h.2.2.2.2.1, h.2.2.2.2.2.1, h.2.2.2.2.2.2⟩
def sp_ofMoon (S : ST) (x what : Int32) : Int32 := match ix S.2.1 x with
  | none => -1
  | some q => if what = 0 then nI q.1 else if what = nI 1 then nI q.2.1 else if what = nI 2 then nI q.2.2 else -2
def sp_phase (S : ST) (x hour : Int32) : Int32 := match ix S.2.1 x with
  | none => -1
  | some q => if btw hour.toInt 0 1999 = true then nI ((hour.toInt.toNat + q.2.2) % q.1) else -2
def sp_level (S : ST) (hour : Int32) : Int32 := if btw hour.toInt 0 1999 = true then (if S.1 = 0 then -3 else nI (lvl S.2.1 hour.toInt.toNat)) else -2
def sp_many (S : ST) (what : Int32) : Int32 := if what = 0 then nI S.1 else if what = nI 1 then nI S.2.1.length else if what = nI 2 then nI S.2.2.1.length else -2
def sp_ofRoad (S : ST) (x what : Int32) : Int32 := match ix S.2.2.1 x with
  | none => -1
  | some q => if what.toInt = 0 then nI q.1 else if what.toInt = 1 then nI q.2.1 else if what.toInt = 2 then nI q.2.2.1 else if what.toInt = 3 then nI q.2.2.2.1 else if what.toInt = 4 then nI q.2.2.2.2.1 else if what.toInt = 5 then nI q.2.2.2.2.2 else -2
def sp_height (S : ST) (x hour : Int32) : Int32 := match ix S.2.2.1 x with
  | none => -1
  | some q => if btw hour.toInt 0 1999 = true then nI (hgt q hour.toInt.toNat) else -2
def sp_dry (S : ST) (x hour : Int32) : Int32 := match ix S.2.2.1 x with
  | none => -1
  | some q => if btw hour.toInt 0 1999 = true then bI (isD S.2.1 q hour.toInt.toNat) else -2
/-- a road mended once more -/
abbrev md (q : Rd) : Rd := (q.1, q.2.1, q.2.2.1, q.2.2.2.1, q.2.2.2.2.1, q.2.2.2.2.2 + 1)
def sp_mend (S : ST) (x : Int32) : Int32 × ST := match ix S.2.2.1 x with
  | none => (-1, S)
  | some q => if q.1 = 0 then (-3, S) else if q.2.2.2.2.2 = 9 then (-4, S) else (nI (q.2.2.2.2.2 + 1), sR S (S.2.2.1.set x.toInt.toNat (md q)))
def isI (S : ST) (x : Int32) : Bool := btw x.toInt 0 ((S.1 : Int) - 1)
def sp_road (S : ST) (kd a b bed len : Int32) : Int32 × ST :=
  if ¬ isI S a = true ∨ ¬ isI S b = true ∨ a = b then (-1, S)
  else if ¬ btw kd.toInt 0 2 = true ∨ ¬ btw bed.toInt 0 400 = true ∨ ¬ btw len.toInt 1 6 = true then (-2, S)
  else if S.2.2.1.length = 10 then (-4, S)
  else (nI S.2.2.1.length, sR S (S.2.2.1 ++ [(kd.toInt.toNat, a.toInt.toNat, b.toInt.toNat, bed.toInt.toNat, len.toInt.toNat, 0)]))
