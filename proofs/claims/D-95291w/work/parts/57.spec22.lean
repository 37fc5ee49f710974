/-! a sea that is read -/
set_option maxRecDepth 100000
def rseaQ (m0 : MT) (F : Nat) (z : Sum Nat (Nat × List Mo)) (v : Option Value) (m' : MT) : Prop := match z with
  | .inl x => v = some (.int (nI 0)) ∧ ∃ y r g7 g8 g9, RdM (va_up m0.1 11 y, m0.2) m' (F + x) r g7 g8 g9
  | .inr q => v = some (.int (nI 1)) ∧ q.2.length ≤ 3 ∧ ∃ p g7 g8 g9, RdM (va_up m0.1 11 (nI q.1), m0.2) m' p q.2.length g7 g8 g9 ∧ MoA g7 g8 g9 q.2
theorem RdM.il {m0 m : MT} {p r : Nat} {g7 g8 g9 : Nat → Int32} (h : RdM m0 m p r g7 g8 g9) : RdM (va_up m0.1 11 (m0.1 11), m0.2) m p r g7 g8 g9 := by
  have e : va_up m0.1 11 (m0.1 11) = m0.1 := by
    funext k
    by_cases e : k = 11
    · subst e
      simp [va_up]
    · simp [va_up, e]
  rw [e]
  exact h
section RSEA
variable {c : Nat → Int32} {n : Nat}
theorem rsea_0 (h : ¬ (0 < n ∧ c 0 = nI 115)) : rsea c n = .inl 0 := if_neg h
theorem rsea_1 (h : 0 < n ∧ c 0 = nI 115) (h2 : dg c n 1 = none) : rsea c n = .inl 1 := (if_pos h).trans (by rw [h2])
theorem rsea_2 {k : Nat} (h : 0 < n ∧ c 0 = nI 115) (h2 : dg c n 1 = some k) (h3 : ¬ (2 ≤ k ∧ k ≤ 6)) : rsea c n = .inl 1 := (if_pos h).trans (by rw [h2]; exact if_neg h3)
theorem rsea_3 {k x : Nat} (h : 0 < n ∧ c 0 = nI 115) (h2 : dg c n 1 = some k) (h3 : 2 ≤ k ∧ k ≤ 6) (h4 : rms c n 4 2 [] = .inl x) : rsea c n = .inl x := (if_pos h).trans (by rw [h2]; exact (if_pos h3).trans (by rw [h4]))
theorem rsea_4 {k : Nat} {l : List Mo} (h : 0 < n ∧ c 0 = nI 115) (h2 : dg c n 1 = some k) (h3 : 2 ≤ k ∧ k ≤ 6) (h4 : rms c n 4 2 [] = .inr l) : rsea c n = .inr (k, l) := (if_pos h).trans (by rw [h2]; exact (if_pos h3).trans (by rw [h4]))
end RSEA
theorem rms_ne {c : Nat → Int32} {n : Nat} : ∀ (j p : Nat) (acc l : List Mo), rms c n j p acc = .inr l → 1 ≤ l.length
  | 0, p, acc, l, h => by cases h
  | j + 1, p, acc, l, h => by
    by_cases h1 : 1 ≤ acc.length ∧ n ≤ p
    · rw [rms_end h1] at h
      cases h
      exact h1.1
    · by_cases h2 : acc.length = 3 ∨ ¬ (p < n ∧ c p = nI 59)
      · rw [rms_bad h1 h2] at h
        cases h
      · have h3 : p < n ∧ c p = nI 59 := Classical.byContradiction (fun z => h2 (Or.inr z))
        rcases h4 : rmo c n (p + 1) with x | q
        · rw [rms_no h1 (fun z => h2 (Or.inl z)) h3 h4] at h
          cases h
        · rw [rms_ok h1 (fun z => h2 (Or.inl z)) h3 h4] at h
          exact rms_ne j (p + 7) (acc ++ [q]) l h
