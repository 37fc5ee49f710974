/-! sheets of the reference -/
set_option maxRecDepth 100000
abbrev Sh : Type := Nat × Nat × (Nat → Int32)
/-- what a sheet k, as the reference has it, says of its three arrays -/
def ShK (f1 f2 f3 : Nat → Int32) (k : Nat) (o : Option Sh) : Prop := (o = none → f1 k = -9) ∧ ∀ q, o = some q → f1 k = nI q.1 ∧ q.1 ≤ 2 ∧ f2 k = nI q.2.1 ∧ q.2.1 ≤ 60 ∧ ∀ i, i < q.2.1 → f3 (60 * k + i) = q.2.2 i
theorem ShR.gen {m m' : MT} {sh : Nat → Option Sh} {k : Nat} {o : Option Sh} {f1 f2 f3 : Nat → Int32} (h : ShR m sh) (e1 : m'.2 1 = f1) (e2 : m'.2 2 = f2) (e3 : m'.2 3 = f3) (ho : ShK f1 f2 f3 k o) (h1 : ∀ j, j ≠ k → f1 j = m.2 1 j) (h2 : ∀ j, j ≠ k → f2 j = m.2 2 j) (h3 : ∀ j i, j ≠ k → i < 60 → f3 (60 * j + i) = m.2 3 (60 * j + i)) : ShR m' (va_up sh k o) := by
  intro j hj
  subst e1
  subst e2
  subst e3
  by_cases e : j = k
  · subst e
    have hs : va_up sh j o j = o := by simp [va_up]
    rw [hs]
    exact ho
  · have hs : va_up sh k o j = sh j := by simp [va_up, e]
    rw [hs]
    obtain ⟨a, b⟩ := h j hj
    refine ⟨fun hn => (h1 j e).trans (a hn), fun q hq => ?_⟩
    obtain ⟨b1, b2, b3, b4, b5⟩ := b q hq
    exact ⟨(h1 j e).trans b1, b2, (h2 j e).trans b3, b4, fun i hi => (h3 j i e (by omega)).trans (b5 i hi)⟩
def ag (o : Option Sh) (sort i n : Int32) : Nat := match o with
  | none => 1
  | some q => if ¬ nI q.1 = sort then 2 else if n < 0 then 4 else if i < 0 ∨ nI q.2.1 < i ∨ nI q.2.1 - i < n then 3 else 0
theorem MS.arr {m m' : MT} {S : ST} {sh : Nat → Option Sh} (h : MS m S) (e1 : m'.1 = m.1) (e2 : ∀ k, 4 ≤ k → k ≤ 15 → m'.2 k = m.2 k) (hs : ShR m' sh) : MS m' (S.1, S.2.1, S.2.2.1, S.2.2.2.1, S.2.2.2.2.1, sh) := by
  obtain ⟨a1, a2, a3, a4, a5, a6, a7⟩ := h
  refine ⟨by rw [e1]; exact a1, ⟨by rw [e1]; exact a2.1, a2.2.1, fun i q hq => ?_⟩, ⟨by rw [e1]; exact a3.1, a3.2.1, fun i q hq => ?_⟩, by rw [e1]; exact a4, by rw [e1]; exact a5, hs, a7⟩
  · rw [e2 4 (by decide) (by decide), e2 5 (by decide) (by decide), e2 6 (by decide) (by decide)]
    exact a2.2.2 i q hq
  · rw [e2 10 (by decide) (by decide), e2 11 (by decide) (by decide), e2 12 (by decide) (by decide), e2 13 (by decide) (by decide), e2 14 (by decide) (by decide), e2 15 (by decide) (by decide)]
    exact a3.2.2 i q hq
theorem ShR.put {m m' : MT} {sh : Nat → Option Sh} {k j : Nat} {q : Sh} {x : Int32} (h : ShR m sh) (hk : k < 4) (hq : sh k = some q) (hj : j < q.2.1) (e1 : m'.2 1 = m.2 1) (e2 : m'.2 2 = m.2 2) (e3 : m'.2 3 = upd (m.2 3) (60 * k + j) x) : ShR m' (va_up sh k (some (q.1, q.2.1, upd q.2.2 j x))) := by
  obtain ⟨b1, b2, b3, b4, b5⟩ := (h k hk).2 q hq
  refine h.gen e1 e2 e3 ⟨(fun h => by cases h), fun q' h' => ?_⟩ (fun _ _ => rfl) (fun _ _ => rfl) (fun a i ha hi => upd_n (by omega))
  cases h'
  refine ⟨b1, b2, b3, b4, fun i hi => ?_⟩
  by_cases e : i = j
  · subst e
    show upd (m.2 3) (60 * k + i) x (60 * k + i) = upd q.2.2 i x i
    rw [upd_s, upd_s]
  · show upd (m.2 3) (60 * k + j) x (60 * k + i) = upd q.2.2 j x i
    rw [upd_n (by omega), upd_n e]
    exact b5 i hi
theorem vu_self {α : Type} (f : Nat → α) (k : Nat) : va_up f k (f k) = f := by
  funext j
  by_cases e : j = k
  · subst e
    simp [va_up]
  · simp [va_up, e]
theorem MR.eta {w : WE} {A : Hp} {m : MT} (h : MR w A m) (k : Nat) : MR w A (m.1, va_up m.2 k (m.2 k)) := by
  rw [vu_self]
  exact h
theorem sub1_toInt {a : Nat} (h : a < 2 ^ 30) : (nI a - nI 1).toInt = (a : Int) - 1 := pk_sub_toInt h (by decide)
theorem nar_0 {l : Nat} {v : Int32} (h : l = 0) : nar l v = v.toInt8.toInt32 := if_pos h
theorem nar_1 {l : Nat} {v : Int32} (h : ¬ l = 0) (h1 : l = 1) : nar l v = v.toInt16.toInt32 := (if_neg h).trans (if_pos h1)
theorem nar_2 {l : Nat} {v : Int32} (h : ¬ l = 0) (h1 : ¬ l = 1) : nar l v = v := (if_neg h).trans (if_neg h1)
theorem ShR.new {m m' : MT} {sh : Nat → Option Sh} {k l n : Nat} {f : Nat → Int32} (h : ShR m sh) (hl : l ≤ 2) (hn : n ≤ 60) (e1 : m'.2 1 = upd (m.2 1) k (nI l)) (e2 : m'.2 2 = upd (m.2 2) k (nI n)) (e3 : m'.2 3 = f) (hf : ∀ p, f p = if 60 * k ≤ p ∧ p < 60 * k + 60 then nI 0 else m.2 3 p) : ShR m' (va_up sh k (some (l, n, fun _ => 0))) := by
  refine h.gen e1 e2 e3 ⟨(fun h => by cases h), fun q' h' => ?_⟩ (fun _ hj => upd_n hj) (fun _ hj => upd_n hj) (fun a i ha hi => ?_)
  · cases h'
    refine ⟨upd_s, hl, upd_s, hn, fun i hi => ?_⟩
    dsimp only at hi ⊢
    rw [hf, if_pos (by omega)]
    rfl
  · rw [hf, if_neg (by omega)]
