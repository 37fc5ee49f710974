/-! shares, periods -/
set_option maxRecDepth 100000
theorem allb_t {p : Nat → Bool} {j t : Nat} (h : p t = true) : allb p (j + 1) t = allb p j (t + 1) := if_pos h
theorem allb_f {p : Nat → Bool} {j t : Nat} (h : p t = false) : allb p (j + 1) t = false := if_neg (by rw [h]; decide)
theorem cntb_s {p : Nat → Bool} {j t s : Nat} : cntb p (j + 1) t s = cntb p j (t + 1) (if p t = true then s + 1 else s) := rfl
/-- the first t from t on, for j steps, at which p holds -/
def fnd (p : Nat → Bool) : Nat → Nat → Nat
  | 0, t => t
  | j + 1, t => if p t = true then t else fnd p j (t + 1)
theorem fnd_t {p : Nat → Bool} {j t : Nat} (h : p t = true) : fnd p (j + 1) t = t := if_pos h
theorem fnd_f {p : Nat → Bool} {j t : Nat} (h : p t = false) : fnd p (j + 1) t = fnd p j (t + 1) := if_neg (by rw [h]; decide)
/-- the months' least common multiple -/
def lcmM (ms : List Mo) : Nat := ms.foldl (fun a q => Nat.lcm a q.1) 1
theorem lcmM_take {ms : List Mo} {i : Nat} {q : Mo} (hq : ms[i]? = some q) : lcmM (ms.take (i + 1)) = Nat.lcm (lcmM (ms.take i)) q.1 := by
  unfold lcmM
  rw [List.take_succ, hq]
  simp
theorem lcmM_all {ms : List Mo} {i : Nat} (hi : ms.length ≤ i) : lcmM (ms.take i) = lcmM ms := by rw [List.take_of_length_le hi]
theorem lcm_le_mul {a b : Nat} : Nat.lcm a b ≤ a * b := Nat.div_le_self _ _
theorem lcmM_bound {ms : List Mo} (hok : ∀ q ∈ ms, MoOk q) : 0 < lcmM ms ∧ lcmM ms ≤ 30 ^ ms.length := by
  unfold lcmM
  have : ∀ (l : List Mo) (a : Nat), (∀ q ∈ l, MoOk q) → 0 < a → 0 < l.foldl (fun a q => Nat.lcm a q.1) a ∧ l.foldl (fun a q => Nat.lcm a q.1) a ≤ a * 30 ^ l.length := by
    intro l
    induction l with
    | nil => intro a _ ha; exact ⟨ha, by simp⟩
    | cons b l ih =>
      intro a hl ha
      obtain ⟨b1, b2, -⟩ := hl b List.mem_cons_self
      have hp : 0 < Nat.lcm a b.1 := Nat.lcm_pos ha (by omega)
      have h := ih (Nat.lcm a b.1) (fun q hq => hl q (List.mem_cons_of_mem _ hq)) hp
      refine ⟨h.1, Nat.le_trans h.2 ?_⟩
      rw [List.length_cons, Nat.pow_succ, Nat.mul_comm (30 ^ l.length) 30, ← Nat.mul_assoc]
      exact Nat.mul_le_mul_right _ (Nat.le_trans lcm_le_mul (Nat.mul_le_mul_left a b2))
  have h := this ms 1 hok (by decide)
  rw [Nat.one_mul] at h
  exact h
/-- at by the level comes again -/
def agn (ms : List Mo) (L b : Nat) : Bool := decide (L % b = 0) && allb (fun t => decide (lvl ms t = lvl ms (t + b))) L 0
def sp_again (S : ST) : Int32 := if S.1 = 0 then -3 else nI (fnd (agn S.2.1 (lcmM S.2.1)) (lcmM S.2.1 - 1) 1)
theorem lcm_next {o b c : Nat} (ho : 0 < o) (hb : 0 < b) (hc : o * c ≤ Nat.lcm o b) (hr : ¬ (o * c) % b = 0) : o * (c + 1) ≤ Nat.lcm o b := by
  obtain ⟨e, he⟩ := Nat.dvd_lcm_left o b
  rw [he] at hc ⊢
  have h1 : c ≤ e := Nat.le_of_mul_le_mul_left hc ho
  have h2 : c ≠ e := fun h => hr (by rw [h, ← he]; exact Nat.mod_eq_zero_of_dvd (Nat.dvd_lcm_right o b))
  exact Nat.mul_le_mul_left o (by omega)
theorem lcm_end {o b c : Nat} (hc0 : 0 < c) (ho : 0 < o) (hc : o * c ≤ Nat.lcm o b) (hr : (o * c) % b = 0) : o * c = Nat.lcm o b :=
  Nat.le_antisymm hc (Nat.le_of_dvd (Nat.mul_pos ho hc0) (Nat.lcm_dvd (Nat.dvd_mul_right o c) (Nat.dvd_of_mod_eq_zero hr)))
