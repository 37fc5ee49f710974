/-! orders stay within the islands -/
set_option maxRecDepth 100000
theorem swp_lt {n isl p q : Nat} {od : Nat → Nat} (h : ∀ k, k < n → od k < isl) (hp : p < n) (hq : q < n) : ∀ k, k < n → swp od p q k < isl := fun k hk => by
  unfold swp
  split
  · exact h p hp
  · split
    · exact h q hq
    · exact h k hk
theorem rvs_lt {n isl : Nat} : ∀ (j : Nat) (od : Nat → Nat) (lo hi : Nat), hi < n → (∀ k, k < n → od k < isl) → ∀ k, k < n → rvs j od lo hi k < isl
  | 0, od, lo, hi, _, h => h
  | j + 1, od, lo, hi, hh, h => by
    by_cases hc : lo < hi
    · rw [rvs_t hc]
      exact rvs_lt j _ _ _ (by omega) (swp_lt h (by omega) hh)
    · rw [rvs_f hc]
      exact h
theorem fq_le (od : Nat → Nat) (v : Nat) : ∀ q, fq od v q ≤ q
  | 0 => Nat.le_refl _
  | q + 1 => by
    unfold fq
    have := fq_le od v q
    split <;> omega
theorem nxo_lt {n isl : Nat} {od : Nat → Nat} (hn : 1 ≤ n) (h : ∀ k, k < n → od k < isl) : ∀ k, k < n → nxo n od k < isl := by
  have h1 := fp_le od (n - 1)
  have h2 := fq_le od (od (fp od (n - 1) - 1)) (n - 1)
  exact rvs_lt n _ _ _ (by omega) (swp_lt h (by omega) (by omega))
