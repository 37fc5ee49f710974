/-! a moon that is read -/
set_option maxRecDepth 100000
theorem rmo_0 {c : Nat → Int32} {n p : Nat} (h : ¬ (p < n ∧ c p = nI 109)) : rmo c n p = .inl p := if_neg h
theorem rmo_1 {c : Nat → Int32} {n p x : Nat} (h : p < n ∧ c p = nI 109) (h1 : td c n (p + 1) 2 30 = .inl x) : rmo c n p = .inl x := by
  unfold rmo
  rw [if_pos h, h1]
theorem rmo_2 {c : Nat → Int32} {n p mo : Nat} (h : p < n ∧ c p = nI 109) (h1 : td c n (p + 1) 2 30 = .inr mo) (h2 : dg c n (p + 3) = none ∨ dg c n (p + 3) = some 0) : rmo c n p = .inl (p + 3) := by
  unfold rmo
  rw [if_pos h, h1]
  rcases h2 with h2 | h2 <;> rw [h2] <;> rfl
theorem rmo_3 {c : Nat → Int32} {n p mo pl x : Nat} (h : p < n ∧ c p = nI 109) (h1 : td c n (p + 1) 2 30 = .inr mo) (h2 : dg c n (p + 3) = some pl) (h3 : 1 ≤ pl) (h4 : td c n (p + 4) 0 (mo - 1) = .inl x) : rmo c n p = .inl x := by
  unfold rmo
  rw [if_pos h, h1]
  dsimp only
  rw [h2]
  dsimp only
  rw [if_neg (by omega), h4]
theorem rmo_4 {c : Nat → Int32} {n p mo pl a : Nat} (h : p < n ∧ c p = nI 109) (h1 : td c n (p + 1) 2 30 = .inr mo) (h2 : dg c n (p + 3) = some pl) (h3 : 1 ≤ pl) (h4 : td c n (p + 4) 0 (mo - 1) = .inr a) : rmo c n p = .inr (mo, pl, a) := by
  unfold rmo
  rw [if_pos h, h1]
  dsimp only
  rw [h2]
  dsimp only
  rw [if_neg (by omega), h4]
