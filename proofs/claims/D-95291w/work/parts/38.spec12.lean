/-! rounds: by an order -/
set_option maxRecDepth 100000
def ovb (B : Nat → Nat → Nat → Nat) (od : Nat → Nat) (isl : Nat) : Nat → Nat → Nat → Nat → Nat
  | 0, _, _, t => t
  | j + 1, k, now, t => if t < 2000 then (if 2000 < B now t (od k) + 1 then 9999 else if B now t (od k) + 1 = 2000 ∧ k + 2 < isl then 9999 else ovb B od isl j (k + 1) (od k) (B now t (od k) + 1)) else t
def OrdR (m : MT) (n isl : Nat) (od : Nat → Nat) : Prop := ∀ k, k < n → m.2 20 k = nI (od k) ∧ od k < isl
theorem ovb_e {B : Nat → Nat → Nat → Nat} {od : Nat → Nat} {isl j k now t : Nat} (h : 2000 ≤ t) : ovb B od isl j k now t = t := by
  cases j with
  | zero => rfl
  | succ j =>
    unfold ovb
    rw [if_neg (by omega)]
theorem ovb_9 {B : Nat → Nat → Nat → Nat} {od : Nat → Nat} {isl j k now t : Nat} (h : t < 2000) (h2 : 2000 < B now t (od k) + 1 ∨ (B now t (od k) + 1 = 2000 ∧ k + 2 < isl)) : ovb B od isl (j + 1) k now t = 9999 := by
  unfold ovb
  rw [if_pos h]
  by_cases h3 : 2000 < B now t (od k) + 1
  · rw [if_pos h3]
  · rw [if_neg h3, if_pos (h2.resolve_left h3)]
theorem ovb_s {B : Nat → Nat → Nat → Nat} {od : Nat → Nat} {isl j k now t : Nat} (h : t < 2000) (h2 : ¬ 2000 < B now t (od k) + 1) (h3 : ¬ (B now t (od k) + 1 = 2000 ∧ k + 2 < isl)) : ovb B od isl (j + 1) k now t = ovb B od isl j (k + 1) (od k) (B now t (od k) + 1) := by
  conv => lhs; unfold ovb
  rw [if_pos h, if_neg h2, if_neg h3]
