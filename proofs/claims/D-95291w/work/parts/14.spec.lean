/-! WHAT IS COMPUTED: moons, roads, the level, heights -/
set_option maxRecDepth 100000
/-- a moon: month, pull, age -/
abbrev Mo : Type := Nat × Nat × Nat
def MoOk (q : Mo) : Prop := 2 ≤ q.1 ∧ q.1 ≤ 30 ∧ 1 ≤ q.2.1 ∧ q.2.1 ≤ 9 ∧ q.2.2 < q.1
def dr (q : Mo) (h : Nat) : Nat := q.2.1 * min ((h + q.2.2) % q.1) (q.1 - (h + q.2.2) % q.1)
def lvl (ms : List Mo) (h : Nat) : Nat := (ms.map (fun q => dr q h)).sum
theorem lvl_take {ms : List Mo} {i : Nat} {q : Mo} {h : Nat} (hq : ms[i]? = some q) : lvl (ms.take (i + 1)) h = lvl (ms.take i) h + dr q h := by
  unfold lvl
  rw [List.take_succ, hq]
  simp
theorem lvl_all {ms : List Mo} {i h : Nat} (hi : ms.length ≤ i) : lvl (ms.take i) h = lvl ms h := by rw [List.take_of_length_le hi]
theorem dr_le {q : Mo} (hq : MoOk q) (h : Nat) : dr q h ≤ 135 := by
  obtain ⟨h1, h2, h3, h4, h5⟩ := hq
  unfold dr
  have hm : min ((h + q.2.2) % q.1) (q.1 - (h + q.2.2) % q.1) ≤ 15 := by omega
  exact Nat.le_trans (Nat.mul_le_mul h4 hm) (by decide)
theorem lvl_le {ms : List Mo} (h : Nat) (hok : ∀ q ∈ ms, MoOk q) : lvl ms h ≤ 135 * ms.length := by
  induction ms with
  | nil => simp [lvl]
  | cons a l ih =>
    have h1 := dr_le (hok a List.mem_cons_self) h
    have h2 := ih (fun q hq => hok q (List.mem_cons_of_mem _ hq))
    have h3 : lvl (a :: l) h = dr a h + lvl l h := by simp [lvl]
    rw [h3, List.length_cons]
    omega
/-- a road: kind, its two islands, bed, length, mends -/
abbrev Rd : Type := Nat × Nat × Nat × Nat × Nat × Nat
def RdOk (isl : Nat) (q : Rd) : Prop := q.1 ≤ 2 ∧ q.2.1 < isl ∧ q.2.2.1 < isl ∧ q.2.1 ≠ q.2.2.1 ∧ q.2.2.2.1 ≤ 400 ∧ 1 ≤ q.2.2.2.2.1 ∧ q.2.2.2.2.1 ≤ 6 ∧ q.2.2.2.2.2 ≤ 10
def hgt (q : Rd) (h : Nat) : Nat := if q.1 = 2 then q.2.2.2.1 + 2 * q.2.2.2.2.2 - h / 100 else q.2.2.2.1 + 2 * q.2.2.2.2.2
def isD (ms : List Mo) (q : Rd) (h : Nat) : Bool := decide (lvl ms h ≤ hgt q h)
/-- the reference's moons and roads -/
def MoR (m : MT) (ms : List Mo) : Prop := m.1 6 = nI ms.length ∧ ms.length ≤ 3 ∧ ∀ (i : Nat) (q : Mo), ms[i]? = some q → m.2 4 i = nI q.1 ∧ m.2 5 i = nI q.2.1 ∧ m.2 6 i = nI q.2.2 ∧ MoOk q
def RdR (m : MT) (isl : Nat) (rs : List Rd) : Prop := m.1 16 = nI rs.length ∧ rs.length ≤ 10 ∧ ∀ (i : Nat) (q : Rd), rs[i]? = some q → m.2 10 i = nI q.1 ∧ m.2 11 i = nI q.2.1 ∧ m.2 12 i = nI q.2.2.1 ∧ m.2 13 i = nI q.2.2.2.1 ∧ m.2 14 i = nI q.2.2.2.2.1 ∧ m.2 15 i = nI q.2.2.2.2.2 ∧ RdOk isl q
theorem MoR.ok {m : MT} {ms : List Mo} (h : MoR m ms) : ∀ q ∈ ms, MoOk q := fun q hq => by
  obtain ⟨i, hi⟩ := List.getElem?_of_mem hq
  exact (h.2.2 i q hi).2.2.2
theorem MoR.lt {m : MT} {ms : List Mo} (h : MoR m ms) (t : Nat) : lvl ms t ≤ 405 := by
  have := lvl_le t h.ok
  have := h.2.1
  omega
theorem hgt_le {isl : Nat} {q : Rd} (h : RdOk isl q) (t : Nat) : hgt q t ≤ 420 := by
  obtain ⟨_, _, _, _, h5, _, _, h8⟩ := h
  unfold hgt
  split <;> omega
theorem get_of_lt {α : Type} {l : List α} {i : Nat} (h : i < l.length) : ∃ q, l[i]? = some q := ⟨l[i], List.getElem?_eq_getElem h⟩
theorem sm1 {a b : Nat} (ha : a < 2 ^ 30) (hb : b < 2 ^ 30) (h : 0 ≤ nI a - nI b) : nI a - nI b = nI (a - b) := pk_sub (by
  have h2 := i_le.mp h
  rw [pk_sub_toInt ha hb, z_om] at h2
  omega)
theorem sm2 {a b : Nat} (ha : a < 2 ^ 30) (hb : b < 2 ^ 30) (h : ¬ 0 ≤ nI a - nI b) : a - b = 0 := by
  have h2 : ¬ (0 : Int32).toInt ≤ (nI a - nI b).toInt := fun q => h (i_le.mpr q)
  rw [pk_sub_toInt ha hb, z_om] at h2
  omega
