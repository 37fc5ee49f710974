/-! what journeys answer -/
set_option maxRecDepth 100000
abbrev bfS (S : ST) (herd : Bool) (f h x : Nat) : Nat := bf S.1 S.2.1 herd S.2.2.1 f h x
def tl (t : Nat) : Int32 := if 2000 < t then -9 else nI t
def sp_soonest (S : ST) (f t hour : Int32) (herd : Bool) : Int32 :=
  if ¬ isI S f = true ∨ ¬ isI S t = true then -1 else if ¬ btw hour.toInt 0 1999 = true then -2 else tl (bfS S herd f.toInt.toNat hour.toInt.toNat t.toInt.toNat)
/-- by halves: lo = low + 1 -/
def bsr (p : Nat → Bool) : Nat → Nat → Nat → Nat
  | 0, lo, _ => lo
  | j + 1, lo, hi => if lo < hi then (if p ((lo + hi - 1) / 2) = true then bsr p j ((lo + hi - 1) / 2 + 1) hi else bsr p j lo ((lo + hi - 1) / 2)) else lo
def sp_latest (S : ST) (f t by_ : Int32) (herd : Bool) : Int32 :=
  if ¬ isI S f = true ∨ ¬ isI S t = true then -1 else if ¬ btw by_.toInt 0 2000 = true then -2
  else (let r := bsr (fun h => decide (bfS S herd f.toInt.toNat h t.toInt.toNat ≤ by_.toInt.toNat)) 2000 0 2000
        if r = 0 then -9 else nI (r - 1))
def sp_saves (S : ST) (x f t hour : Int32) : Int32 := match ix S.2.2.1 x with
  | none => -1
  | some q => if ¬ isI S f = true ∨ ¬ isI S t = true then -1 else if ¬ btw hour.toInt 0 1999 = true then -2 else if q.1 = 0 then -3
    else (let a := bfS S false f.toInt.toNat hour.toInt.toNat t.toInt.toNat
          let b := bfS (sR S (S.2.2.1.set x.toInt.toNat (md q))) false f.toInt.toNat hour.toInt.toNat t.toInt.toNat
          if 2000 < b then -9 else nI (if 2000 < a then 2001 else a) - nI b)
theorem om1 : (Int32.ofInt (-1)).toInt = -1 := by decide
theorem isI_nat {S : ST} {x : Int32} (h : isI S x = true) (h6 : S.1 ≤ 6) : ∃ z : Nat, z < S.1 ∧ x = nI z := by
  obtain ⟨z, z1, z2, z3⟩ := btw_nat h (by decide) (by omega)
  exact ⟨z, by omega, z3⟩
theorem bfN_le {ms : List Mo} {herd : Bool} {rs : List Rd} {x : Nat} : ∀ (j : Nat) (T : Nat → Nat), T x ≤ 9999 → bfN ms herd rs j T x ≤ 9999
  | 0, T, h => h
  | j + 1, T, h => by
    have hb : ∀ (l : List Rd) (T : Nat → Nat), T x ≤ 9999 → bfR ms herd l T x ≤ 9999 := by
      intro l
      induction l with
      | nil => intro T h; exact h
      | cons q l ihl => intro T h; exact ihl (rlq ms herd q T) (rlx_le (rlx_le h))
    exact bfN_le j _ (hb rs T h)
theorem bf_le {isl : Nat} {ms : List Mo} {herd : Bool} {rs : List Rd} {f h x : Nat} (hh : h ≤ 2000) : bf isl ms herd rs f h x ≤ 9999 := bfN_le isl _ (by unfold bf0; split <;> omega)
theorem ad_no {x y : Int32} (h1 : -2147483648 ≤ x.toInt + y.toInt) (h2 : x.toInt + y.toInt < 2147483648) : (x + y).toInt = x.toInt + y.toInt := by
  rw [ad_om]
  omega
theorem sb_no {x y : Int32} (h1 : -2147483648 ≤ x.toInt - y.toInt) (h2 : x.toInt - y.toInt < 2147483648) : (x - y).toInt = x.toInt - y.toInt := by
  rw [sb_om]
  omega
theorem lo_m1 {a : Nat} (h : a ≤ 9999) : (nI a + Int32.ofInt (-1)).toInt = (a : Int) - 1 := by
  rw [ad_no] <;> rw [nI_toInt (by omega), om1] <;> omega
theorem lh_le {a b : Nat} (ha : a ≤ 9999) (hb : b ≤ 9999) : nI b - (nI a + Int32.ofInt (-1)) ≤ nI 1 ↔ b ≤ a := by
  rw [i_le, sb_no] <;> rw [nI_toInt (n := b) (by omega), lo_m1 ha]
  · rw [nI_toInt (by decide)]
    omega
  · omega
  · omega
theorem lh_sum {a b : Nat} (ha : a ≤ 9999) (hb : b ≤ 9999) (h : 1 ≤ a + b) : nI a + Int32.ofInt (-1) + nI b = nI (a + b - 1) := by
  rw [i_eq, ad_no] <;> rw [nI_toInt (n := b) (by omega), lo_m1 ha]
  · rw [nI_toInt (by omega)]
    omega
  · omega
  · omega
theorem lo_ge {a : Nat} (ha : a ≤ 9999) : 0 ≤ nI a + Int32.ofInt (-1) ↔ 1 ≤ a := by
  rw [i_le, lo_m1 ha, z_om]
  omega
theorem lo_val {a : Nat} (h : 1 ≤ a) : nI a + Int32.ofInt (-1) = nI (a - 1) := by
  obtain ⟨b, rfl⟩ : ∃ b, a = b + 1 := ⟨a - 1, by omega⟩
  exact incm1
theorem lt_end {r : Int32} {a : Nat} (ha : a ≤ 9999) (hr : r = if a = 0 then -9 else nI (a - 1)) (h : ¬ 0 ≤ nI a + Int32.ofInt (-1)) : r = -9 := by
  rw [hr, if_pos (by have : ¬ 1 ≤ a := fun q => h ((lo_ge ha).mpr q); omega)]
theorem lt_end2 {r : Int32} {a : Nat} (ha : a ≤ 9999) (hr : r = if a = 0 then -9 else nI (a - 1)) (h : 0 ≤ nI a + Int32.ofInt (-1)) : r = nI a + Int32.ofInt (-1) := by
  have h1 := (lo_ge ha).mp h
  rw [hr, if_neg (by omega), lo_val h1]
theorem bsr_t {p : Nat → Bool} {j lo hi : Nat} (h : lo < hi) (hp : p ((lo + hi - 1) / 2) = true) : bsr p (j + 1) lo hi = bsr p j ((lo + hi - 1) / 2 + 1) hi := by
  conv => lhs; unfold bsr
  rw [if_pos h, if_pos hp]
theorem bsr_f {p : Nat → Bool} {j lo hi : Nat} (h : lo < hi) (hp : p ((lo + hi - 1) / 2) = false) : bsr p (j + 1) lo hi = bsr p j lo ((lo + hi - 1) / 2) := by
  conv => lhs; unfold bsr
  rw [if_pos h, if_neg (by rw [hp]; decide)]
theorem bsr_e {p : Nat → Bool} {j lo hi : Nat} (h : ¬ lo < hi) : bsr p (j + 1) lo hi = lo := by
  unfold bsr
  rw [if_neg h]
theorem tl_i {t : Nat} : (if 2000 < (t : Int) then (-9 : Int32) else nI t) = tl t := by
  unfold tl
  split <;> split <;> first | rfl | omega
