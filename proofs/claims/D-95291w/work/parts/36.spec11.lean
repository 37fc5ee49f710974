/-! meetings -/
set_option maxRecDepth 100000
def bitb (set : Int32) (k : Nat) : Bool := decide (((set >>> (nI k &&& 31)) &&& nI 1) = nI 1)
/-- of each island when the last is there, from the islands of the set from fr on -/
def mxs (B : Nat → Nat → Nat) (set : Int32) : Nat → Nat → (Nat → Nat) → Nat → Nat
  | 0, _, M => M
  | j + 1, fr, M => mxs B set j (fr + 1) (if bitb set fr = true then fun x => max (M x) (B fr x) else M)
def amin (M : Nat → Nat) : Nat → Nat → Nat → Nat
  | 0, _, b => b
  | j + 1, x, b => amin M j (x + 1) (if M x < M b then x else b)
def sp_meeting (S : ST) (set hour what : Int32) : Int32 :=
  if ¬ btw set.toInt 1 (2 ^ S.1 - 1) = true ∨ ¬ btw hour.toInt 0 1999 = true ∨ ¬ btw what.toInt 0 1 = true then -2
  else (let M := mxs (fun fr x => bfS S false fr hour.toInt.toNat x) set S.1 0 (fun _ => 0)
        let b := amin M (S.1 - 1) 1 0
        if 2000 < M b then -9 else if what.toInt = 0 then nI (M b) else nI b)
theorem shl6 : ∀ k, k ≤ 6 → (nI 1 <<< (nI k &&& 31)).toInt = 2 ^ k := by decide
theorem pw6 : ∀ k, k ≤ 6 → (2 : Int) ^ k ≤ 64 := by decide
def MetR (m : MT) (isl : Nat) (M : Nat → Nat) : Prop := ∀ x, x < isl → m.2 22 x = nI (M x) ∧ M x ≤ 9999
theorem mxs_t {B : Nat → Nat → Nat} {set : Int32} {j fr : Nat} {M : Nat → Nat} (h : bitb set fr = true) : mxs B set (j + 1) fr M = mxs B set j (fr + 1) (fun x => max (M x) (B fr x)) := by
  conv => lhs; unfold mxs
  rw [if_pos h]
theorem mxs_f {B : Nat → Nat → Nat} {set : Int32} {j fr : Nat} {M : Nat → Nat} (h : bitb set fr = false) : mxs B set (j + 1) fr M = mxs B set j (fr + 1) M := by
  conv => lhs; unfold mxs
  rw [if_neg (by rw [h]; decide)]
theorem amin_t {M : Nat → Nat} {j x b : Nat} (h : M x < M b) : amin M (j + 1) x b = amin M j (x + 1) x := by
  conv => lhs; unfold amin
  rw [if_pos h]
theorem amin_f {M : Nat → Nat} {j x b : Nat} (h : ¬ M x < M b) : amin M (j + 1) x b = amin M j (x + 1) b := by
  conv => lhs; unfold amin
  rw [if_neg h]
/-- scratch but the crossings -/
def Eqk (m m' : MT) : Prop := Eqm m m' ∧ m'.2 16 = m.2 16 ∧ m'.2 17 = m.2 17
theorem Eqk.rf {m : MT} : Eqk m m := ⟨Eqm.rf, rfl, rfl⟩
theorem Eqk.arr {m m' : MT} {k : Nat} {f : Nat → Int32} (h : Eqk m m') (hk : 17 < k) : Eqk m (m'.1, va_up m'.2 k f) := ⟨h.1.tr (Eqm.arr (by omega)), (by show va_up m'.2 k f 16 = _; rw [← h.2.1]; simp [va_up]; omega), (by show va_up m'.2 k f 17 = _; rw [← h.2.2]; simp [va_up]; omega)⟩
