/-! rounds, as the reference goes through the orders -/
set_option maxRecDepth 100000
def od0 (f : Nat) : Nat → Nat := fun k => if k < f then k else k + 1
/-- the orders from od on end within j steps -/
def trm (n : Nat) : Nat → (Nat → Nat) → Prop
  | 0, _ => False
  | j + 1, od => (∀ k, k < n → od k < 6) ∧ (0 < fp od (n - 1) → trm n j (nxo n od))
/-- the soonest and its order -/
def rdl (n : Nat) (O : (Nat → Nat) → Nat) : Nat → (Nat → Nat) → Nat → (Nat → Nat) → Nat × (Nat → Nat)
  | 0, _, s, b => (s, b)
  | j + 1, od, s, b => if 0 < fp od (n - 1) then rdl n O j (nxo n od) (if O od < s then O od else s) (if O od < s then od else b) else (if O od < s then O od else s, if O od < s then od else b)
theorem rdl_t {n : Nat} {O : (Nat → Nat) → Nat} {j s : Nat} {od b : Nat → Nat} (h : 0 < fp od (n - 1)) : rdl n O (j + 1) od s b = rdl n O j (nxo n od) (if O od < s then O od else s) (if O od < s then od else b) := by
  conv => lhs; unfold rdl
  rw [if_pos h]
theorem rdl_f {n : Nat} {O : (Nat → Nat) → Nat} {j s : Nat} {od b : Nat → Nat} (h : ¬ 0 < fp od (n - 1)) : rdl n O (j + 1) od s b = (if O od < s then O od else s, if O od < s then od else b) := by
  conv => lhs; unfold rdl
  rw [if_neg h]
def OS (S : ST) (f h : Nat) (od : Nat → Nat) : Nat := ovb (fun f t x => bfS S false f t x) od S.1 (S.1 - 1) 0 f h
def rdS (S : ST) (f h : Nat) : Nat × (Nat → Nat) := rdl (S.1 - 1) (OS S f h) 130 (od0 f) 9999 (fun _ => 0)
def sp_round (S : ST) (f hour q : Int32) : Int32 :=
  if ¬ isI S f = true ∨ ¬ btw q.toInt (-1) ((S.1 : Int) - 2) = true then -1 else if ¬ btw hour.toInt 0 1999 = true then -2
  else if (rdS S f.toInt.toNat hour.toInt.toNat).1 = 9999 then -9 else if q.toInt = -1 then nI (rdS S f.toInt.toNat hour.toInt.toNat).1 else nI ((rdS S f.toInt.toNat hour.toInt.toNat).2 q.toInt.toNat)
theorem ovb_le {S : ST} {od : Nat → Nat} {isl : Nat} : ∀ (j k now t : Nat), t ≤ 2000 → ovb (fun f t x => bfS S false f t x) od isl j k now t ≤ 9999
  | 0, k, now, t, h => by
    show t ≤ 9999
    omega
  | j + 1, k, now, t, h => by
    unfold ovb
    split
    · split
      · exact Nat.le_refl _
      · split
        · exact Nat.le_refl _
        · exact ovb_le j _ _ _ (by omega)
    · omega
