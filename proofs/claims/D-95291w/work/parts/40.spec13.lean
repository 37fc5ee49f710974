/-! the next order -/
set_option maxRecDepth 100000
def fp (od : Nat → Nat) : Nat → Nat
  | 0 => 0
  | p + 1 => if od (p + 1) < od p then fp od p else p + 1
def fq (od : Nat → Nat) (v : Nat) : Nat → Nat
  | 0 => 0
  | q + 1 => if od (q + 1) < v then fq od v q else q + 1
def swp (od : Nat → Nat) (p q : Nat) : Nat → Nat := fun k => if k = q then od p else if k = p then od q else od k
def rvs : Nat → (Nat → Nat) → Nat → Nat → Nat → Nat
  | 0, od, _, _ => od
  | j + 1, od, lo, hi => if lo < hi then rvs j (swp od lo hi) (lo + 1) (hi - 1) else od
def nxo (n : Nat) (od : Nat → Nat) : Nat → Nat := rvs n (swp od (fp od (n - 1) - 1) (fq od (od (fp od (n - 1) - 1)) (n - 1))) (fp od (n - 1)) (n - 1)
theorem fp_le (od : Nat → Nat) : ∀ p, fp od p ≤ p
  | 0 => Nat.le_refl _
  | p + 1 => by
    unfold fp
    have := fp_le od p
    split <;> omega
theorem fp_ok (od : Nat → Nat) : ∀ p, 0 < fp od p → ¬ od (fp od p) < od (fp od p - 1)
  | 0, h => absurd h (Nat.lt_irrefl 0)
  | p + 1, h => by
    unfold fp at h ⊢
    split
    · rename_i hc
      rw [if_pos hc] at h
      exact fp_ok od p h
    · rename_i hc
      exact hc
theorem fp_t {od : Nat → Nat} {p : Nat} (h : od (p + 1) < od p) : fp od (p + 1) = fp od p := if_pos h
theorem fp_f {od : Nat → Nat} {p : Nat} (h : ¬ od (p + 1) < od p) : fp od (p + 1) = p + 1 := if_neg h
theorem fq_t {od : Nat → Nat} {v q : Nat} (h : od (q + 1) < v) : fq od v (q + 1) = fq od v q := if_pos h
theorem fq_f {od : Nat → Nat} {v q : Nat} (h : ¬ od (q + 1) < v) : fq od v (q + 1) = q + 1 := if_neg h
theorem rvs_t {od : Nat → Nat} {j lo hi : Nat} (h : lo < hi) : rvs (j + 1) od lo hi = rvs j (swp od lo hi) (lo + 1) (hi - 1) := by
  conv => lhs; unfold rvs
  rw [if_pos h]
theorem rvs_f {od : Nat → Nat} {j lo hi : Nat} (h : ¬ lo < hi) : rvs j od lo hi = od := by
  cases j with
  | zero => rfl
  | succ j =>
    unfold rvs
    rw [if_neg h]
theorem n_m2 : ∀ n, n ≤ 5 → 1 ≤ n → nI n - nI 2 = nI (n - 1) + Int32.ofInt (-1) := by decide
