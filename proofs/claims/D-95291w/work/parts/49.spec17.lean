/-! reading a sea from cells: c the codes, n how many -/
set_option maxRecDepth 100000
/-- a digit at p -/
def dg (c : Nat → Int32) (n p : Nat) : Option Nat := if p < n ∧ btw (c p).toInt 48 57 = true then some ((c p).toInt.toNat - 48) else none
def dgI : Option Nat → Int32
  | none => -9
  | some d => nI d
theorem dg_lt {c : Nat → Int32} {n p d : Nat} (h : dg c n p = some d) : p < n ∧ d ≤ 9 := by
  unfold dg at h
  split at h
  · rename_i hc
    have := btw_t.mp hc.2
    cases h
    omega
  · cases h
/-- two digits at p, least to most: where they are wrong, or what they tell -/
def td (c : Nat → Int32) (n p least most : Nat) : Sum Nat Nat := match dg c n p with
  | none => .inl p
  | some t => if 10 * t + 9 < least ∨ most < 10 * t then .inl p else match dg c n (p + 1) with
    | none => .inl (p + 1)
    | some u => if least ≤ 10 * t + u ∧ 10 * t + u ≤ most then .inr (10 * t + u) else .inl p
/-- a moon at p -/
def rmo (c : Nat → Int32) (n p : Nat) : Sum Nat Mo := if p < n ∧ c p = nI 109 then (match td c n (p + 1) 2 30 with
    | .inl x => .inl x
    | .inr mo => match dg c n (p + 3) with
      | none => .inl (p + 3)
      | some pl => if pl < 1 then .inl (p + 3) else match td c n (p + 4) 0 (mo - 1) with
        | .inl x => .inl x
        | .inr ag => .inr (mo, pl, ag)) else .inl p
def rms (c : Nat → Int32) (n : Nat) : Nat → Nat → List Mo → Sum Nat (List Mo)
  | 0, p, acc => .inl p
  | j + 1, p, acc => if 1 ≤ acc.length ∧ n ≤ p then .inr acc else if acc.length = 3 ∨ ¬ (p < n ∧ c p = nI 59) then .inl p else match rmo c n (p + 1) with
    | .inl x => .inl x
    | .inr q => rms c n j (p + 7) (acc ++ [q])
def rsea (c : Nat → Int32) (n : Nat) : Sum Nat (Nat × List Mo) := if 0 < n ∧ c 0 = nI 115 then (match dg c n 1 with
    | none => .inl 1
    | some k => if 2 ≤ k ∧ k ≤ 6 then (match rms c n 4 2 [] with
      | .inl x => .inl x
      | .inr l => .inr (k, l)) else .inl 1) else .inl 0
def sp_sea (S : ST) (k sort i n : Int32) : Int32 × ST := sp_look S k sort i n true (fun n c => match rsea c n with
  | .inl x => (nI 0 - nI 100 - nI x, sF S (nI 0))
  | .inr (il, l) => (nI l.length, (il, l, [], S.2.2.2.1, nI 0, S.2.2.2.2.2)))
theorem dg_sh {f : Nat → Int32} {a n p : Nat} : dg (fun t => f (a + t)) n p = dg f (a + n) (a + p) := by
  unfold dg
  by_cases h : p < n ∧ btw (f (a + p)).toInt 48 57 = true
  · rw [if_pos h, if_pos ⟨by omega, h.2⟩]
  · rw [if_neg h, if_neg (fun z => h ⟨by omega, z.2⟩)]
theorem dgI_no {c : Nat → Int32} {n p : Nat} (h : ¬ (p < n ∧ btw (c p).toInt 48 57 = true)) : -9 = dgI (dg c n p) := by
  unfold dg
  rw [if_neg h]
  rfl
theorem dgI_yes {c : Nat → Int32} {n p : Nat} (h1 : p < n) (h2 : btw (c p).toInt 48 57 = true) : c p - nI 48 = dgI (dg c n p) := by
  unfold dg
  rw [if_pos ⟨h1, h2⟩]
  obtain ⟨z, z1, z2, z3⟩ := btw_nat h2 (by decide) (by decide)
  rw [z3, nI_nat (by omega)]
  exact pk_sub (by omega)
def atS (m : MT) (x : Nat) : MT := (va_up m.1 10 (nI x), m.2)
theorem atS_eq {m : MT} {x : Nat} (h : m.1 10 = nI x) : m = atS m x := by
  obtain ⟨f, g⟩ := m
  show (f, g) = (va_up f 10 (nI x), g)
  congr 1
  funext k
  by_cases e : k = 10
  · subst e
    simp [va_up]
    exact h
  · simp [va_up, e]
def tdV : Sum Nat Nat → Int32
  | .inl _ => -9
  | .inr y => nI y
def tdP (p : Nat) : Sum Nat Nat → Nat
  | .inl x => x
  | .inr _ => p + 2
theorem td_0 {c : Nat → Int32} {n p l h : Nat} (h1 : dg c n p = none) : td c n p l h = .inl p := by
  unfold td
  rw [h1]
theorem td_1 {c : Nat → Int32} {n p l h t : Nat} (h1 : dg c n p = some t) (h2 : 10 * t + 9 < l ∨ h < 10 * t) : td c n p l h = .inl p := by
  unfold td
  rw [h1]
  exact if_pos h2
theorem td_2 {c : Nat → Int32} {n p l h t : Nat} (h1 : dg c n p = some t) (h2 : ¬ (10 * t + 9 < l ∨ h < 10 * t)) (h3 : dg c n (p + 1) = none) : td c n p l h = .inl (p + 1) := by
  unfold td
  rw [h1]
  dsimp only
  rw [if_neg h2, h3]
theorem td_3 {c : Nat → Int32} {n p l h t u : Nat} (h1 : dg c n p = some t) (h2 : ¬ (10 * t + 9 < l ∨ h < 10 * t)) (h3 : dg c n (p + 1) = some u) : td c n p l h = if l ≤ 10 * t + u ∧ 10 * t + u ≤ h then .inr (10 * t + u) else .inl p := by
  unfold td
  rw [h1]
  dsimp only
  rw [if_neg h2, h3]
theorem td_le {c : Nat → Int32} {n p l h y : Nat} (hy : td c n p l h = .inr y) : l ≤ y ∧ y ≤ h ∧ y ≤ 99 ∧ p + 1 < n := by
  rcases h1 : dg c n p with _ | t
  · rw [td_0 h1] at hy
    cases hy
  · by_cases h2 : 10 * t + 9 < l ∨ h < 10 * t
    · rw [td_1 h1 h2] at hy
      cases hy
    · rcases h3 : dg c n (p + 1) with _ | u
      · rw [td_2 h1 h2 h3] at hy
        cases hy
      · rw [td_3 h1 h2 h3] at hy
        have a := dg_lt h1
        have b := dg_lt h3
        split at hy
        · cases hy
          omega
        · cases hy
