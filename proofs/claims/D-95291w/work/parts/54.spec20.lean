/-! reading from a place on: F is where the codes begin -/
set_option maxRecDepth 100000
def shS {α : Type} (F : Nat) : Sum Nat α → Sum Nat α
  | .inl x => .inl (F + x)
  | .inr y => .inr y
theorem td_sh {f : Nat → Int32} {F n p l h : Nat} : td f (F + n) (F + p) l h = shS F (td (fun t => f (F + t)) n p l h) := by
  rcases h1 : dg f (F + n) (F + p) with _ | t
  · rw [td_0 h1, td_0 (dg_sh.trans h1)]
    rfl
  · by_cases h2 : 10 * t + 9 < l ∨ h < 10 * t
    · rw [td_1 h1 h2, td_1 (dg_sh.trans h1) h2]
      rfl
    · rcases h3 : dg f (F + n) (F + p + 1) with _ | u
      · rw [td_2 h1 h2 h3, td_2 (dg_sh.trans h1) h2 (dg_sh.trans h3)]
        rfl
      · rw [td_3 h1 h2 h3, td_3 (dg_sh.trans h1) h2 (dg_sh.trans h3)]
        split <;> rfl
theorem rmo_sh {f : Nat → Int32} {F n p : Nat} : rmo f (F + n) (F + p) = shS F (rmo (fun t => f (F + t)) n p) := by
  by_cases h : p < n ∧ f (F + p) = nI 109
  · have h' : F + p < F + n ∧ f (F + p) = nI 109 := ⟨by omega, h.2⟩
    have e1 : td f (F + n) (F + p + 1) 2 30 = shS F (td (fun t => f (F + t)) n (p + 1) 2 30) := td_sh (f := f) (F := F) (n := n) (p := p + 1)
    rcases h1 : td (fun t => f (F + t)) n (p + 1) 2 30 with x | mo
    · rw [rmo_1 h h1, rmo_1 h' (e1.trans (by rw [h1]; rfl))]
      rfl
    · have e2 : td f (F + n) (F + p + 1) 2 30 = .inr mo := e1.trans (by rw [h1]; rfl)
      rcases h2 : dg (fun t => f (F + t)) n (p + 3) with _ | pl
      · rw [rmo_2 h h1 (Or.inl h2), rmo_2 h' e2 (Or.inl (dg_sh.symm.trans h2))]
        rfl
      · by_cases h3 : 1 ≤ pl
        · have e4 : td f (F + n) (F + p + 4) 0 (mo - 1) = shS F (td (fun t => f (F + t)) n (p + 4) 0 (mo - 1)) := td_sh (f := f) (F := F) (n := n) (p := p + 4)
          rcases h4 : td (fun t => f (F + t)) n (p + 4) 0 (mo - 1) with x | ag
          · rw [rmo_3 h h1 h2 h3 h4, rmo_3 h' e2 (dg_sh.symm.trans h2) h3 (e4.trans (by rw [h4]; rfl))]
            rfl
          · rw [rmo_4 h h1 h2 h3 h4, rmo_4 h' e2 (dg_sh.symm.trans h2) h3 (e4.trans (by rw [h4]; rfl))]
            rfl
        · have : pl = 0 := by omega
          subst this
          rw [rmo_2 h h1 (Or.inr h2), rmo_2 h' e2 (Or.inr (dg_sh.symm.trans h2))]
          rfl
  · rw [rmo_0 (c := fun t => f (F + t)) (p := p) h, rmo_0 (c := f) (p := F + p) (fun z => h ⟨by omega, z.2⟩)]
    rfl
theorem rmo_ok {c : Nat → Int32} {n p : Nat} {q : Mo} (hq : rmo c n p = .inr q) : MoOk q ∧ p + 6 ≤ n := by
  by_cases h : p < n ∧ c p = nI 109
  · rcases h1 : td c n (p + 1) 2 30 with x | mo
    · rw [rmo_1 h h1] at hq
      cases hq
    · rcases h2 : dg c n (p + 3) with _ | pl
      · rw [rmo_2 h h1 (Or.inl h2)] at hq
        cases hq
      · by_cases h3 : 1 ≤ pl
        · rcases h4 : td c n (p + 4) 0 (mo - 1) with x | ag
          · rw [rmo_3 h h1 h2 h3 h4] at hq
            cases hq
          · rw [rmo_4 h h1 h2 h3 h4] at hq
            cases hq
            have a := td_le h1
            have b := dg_lt h2
            have d := td_le h4
            exact ⟨⟨show 2 ≤ mo by omega, show mo ≤ 30 by omega, show 1 ≤ pl by omega, show pl ≤ 9 by omega, show ag < mo by omega⟩, by omega⟩
        · have : pl = 0 := by omega
          subst this
          rw [rmo_2 h h1 (Or.inr h2)] at hq
          cases hq
  · rw [rmo_0 h] at hq
    cases hq
def MoA (g7 g8 g9 : Nat → Int32) (l : List Mo) : Prop := ∀ i q, l[i]? = some q → g7 i = nI q.1 ∧ g8 i = nI q.2.1 ∧ g9 i = nI q.2.2 ∧ MoOk q
theorem MoA.nil {g7 g8 g9 : Nat → Int32} : MoA g7 g8 g9 [] := fun i q h => by cases h
theorem MoA.snoc {g7 g8 g9 : Nat → Int32} {l : List Mo} {q : Mo} (h : MoA g7 g8 g9 l) (hq : MoOk q) : MoA (upd g7 l.length (nI q.1)) (upd g8 l.length (nI q.2.1)) (upd g9 l.length (nI q.2.2)) (l ++ [q]) := fun i x hx => by
  by_cases e : i < l.length
  · rw [List.getElem?_append_left e] at hx
    have ne : i ≠ l.length := by omega
    rw [upd_n ne, upd_n ne, upd_n ne]
    exact h i x hx
  · rw [List.getElem?_append_right (by omega)] at hx
    by_cases e2 : i = l.length
    · subst e2
      simp at hx
      subst hx
      rw [upd_s, upd_s, upd_s]
      exact ⟨rfl, rfl, rfl, hq⟩
    · rw [List.getElem?_eq_none (by simp; omega)] at hx
      cases hx
def rsQ (m1 : MT) (F : Nat) (z : Sum Nat (List Mo)) (v : Option Value) (m' : MT) : Prop := match z with
  | .inl x => v = some (.int (nI 0)) ∧ ∃ r g7 g8 g9, RdM m1 m' (F + x) r g7 g8 g9
  | .inr l => v = some (.int (nI 1)) ∧ l.length ≤ 3 ∧ ∃ p g7 g8 g9, RdM m1 m' p l.length g7 g8 g9 ∧ MoA g7 g8 g9 l
theorem RdM.wil {m0 m : MT} {p r : Nat} {g7 g8 g9 : Nat → Int32} (h : RdM m0 m p r g7 g8 g9) (x : Int32) : RdM (va_up m0.1 11 x, m0.2) (va_up m.1 11 x, m.2) p r g7 g8 g9 := by
  obtain ⟨a1, a2, a3, a4, a5, a6, a7⟩ := h
  exact ⟨by simp [va_up]; exact a1, by simp [va_up]; exact a2, a3, a4, a5, fun k h1 h2 => by
    by_cases e : k = 11
    · subst e
      simp [va_up]
    · simp [va_up, e]
      exact a6 k h1 h2, a7⟩
