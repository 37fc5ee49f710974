/-! moons that are read -/
set_option maxRecDepth 100000
section RMS
variable {c : Nat → Int32} {n j p : Nat} {acc : List Mo}
theorem rms_end (h : 1 ≤ acc.length ∧ n ≤ p) : rms c n (j + 1) p acc = .inr acc := if_pos h
theorem rms_bad (h : ¬ (1 ≤ acc.length ∧ n ≤ p)) (h2 : acc.length = 3 ∨ ¬ (p < n ∧ c p = nI 59)) : rms c n (j + 1) p acc = .inl p := (if_neg h).trans (if_pos h2)
theorem rms_no {x : Nat} (h : ¬ (1 ≤ acc.length ∧ n ≤ p)) (h2 : acc.length ≠ 3) (h3 : p < n ∧ c p = nI 59) (h4 : rmo c n (p + 1) = .inl x) : rms c n (j + 1) p acc = .inl x := (if_neg h).trans ((if_neg (fun z => z.elim h2 (fun y => y h3))).trans (by rw [h4]))
theorem rms_ok {q : Mo} (h : ¬ (1 ≤ acc.length ∧ n ≤ p)) (h2 : acc.length ≠ 3) (h3 : p < n ∧ c p = nI 59) (h4 : rmo c n (p + 1) = .inr q) : rms c n (j + 1) p acc = rms c n j (p + 7) (acc ++ [q]) := (if_neg h).trans ((if_neg (fun z => z.elim h2 (fun y => y h3))).trans (by rw [h4]))
end RMS
theorem cod_t {f : Nat → Int32} {F n p : Nat} {x : Int32} (h : decide (F + p < F + n ∧ f (F + p) = x) = true) : p < n ∧ (fun t => f (F + t)) p = x := by
  have z := of_decide_eq_true h
  exact ⟨by omega, z.2⟩
theorem cod_f {f : Nat → Int32} {F n p : Nat} {x : Int32} (h : decide (F + p < F + n ∧ f (F + p) = x) = false) : ¬ (p < n ∧ (fun t => f (F + t)) p = x) := fun y => of_decide_eq_false h ⟨by omega, y.2⟩
