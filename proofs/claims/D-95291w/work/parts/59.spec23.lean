/-! reading looks at its cells alone; the state behind a new sea -/
set_option maxRecDepth 100000
section CG
variable {c d : Nat → Int32} {n : Nat}
theorem dg_cg (h : ∀ t, t < n → c t = d t) (p : Nat) : dg c n p = dg d n p := by
  unfold dg
  by_cases hp : p < n
  · rw [h p hp]
  · rw [if_neg (fun z => hp z.1), if_neg (fun z => hp z.1)]
theorem td_cg (h : ∀ t, t < n → c t = d t) (p l u : Nat) : td c n p l u = td d n p l u := by
  unfold td
  rw [dg_cg h p, dg_cg h (p + 1)]
theorem cd_cg (h : ∀ t, t < n → c t = d t) (p : Nat) (x : Int32) : (p < n ∧ c p = x) ↔ (p < n ∧ d p = x) :=
  ⟨fun z => ⟨z.1, (h p z.1).symm.trans z.2⟩, fun z => ⟨z.1, (h p z.1).trans z.2⟩⟩
theorem if_cg {α : Type} {P Q : Prop} [Decidable P] [Decidable Q] (e : P ↔ Q) {a b a' b' : α} (h1 : a = a') (h2 : b = b') : (if P then a else b) = if Q then a' else b' := by
  subst h1
  subst h2
  by_cases hp : P
  · rw [if_pos hp, if_pos (e.mp hp)]
  · rw [if_neg hp, if_neg (fun q => hp (e.mpr q))]
theorem rmo_cg (h : ∀ t, t < n → c t = d t) (p : Nat) : rmo c n p = rmo d n p := by
  unfold rmo
  refine if_cg (cd_cg h p _) ?_ rfl
  rw [td_cg h (p + 1), dg_cg h (p + 3)]
  split
  · rfl
  · split
    · rfl
    · split
      · rfl
      · rw [td_cg h (p + 4)]
theorem rms_cg (h : ∀ t, t < n → c t = d t) : ∀ (j p : Nat) (acc : List Mo), rms c n j p acc = rms d n j p acc
  | 0, p, acc => rfl
  | j + 1, p, acc => by
    unfold rms
    refine if_cg Iff.rfl rfl (if_cg (or_congr Iff.rfl (not_congr (cd_cg h p _))) rfl ?_)
    rw [rmo_cg h (p + 1)]
    split
    · rfl
    · exact rms_cg h j _ _
theorem rsea_cg (h : ∀ t, t < n → c t = d t) : rsea c n = rsea d n := by
  unfold rsea
  refine if_cg (cd_cg h 0 _) ?_ rfl
  rw [dg_cg h 1, rms_cg h 4 2 []]
theorem rsea_ok {k : Nat} {l : List Mo} (h : rsea c n = .inr (k, l)) : 2 ≤ k ∧ k ≤ 6 ∧ 1 ≤ l.length := by
  unfold rsea at h
  split at h
  · split at h
    · cases h
    · split at h
      · rename_i hk
        split at h
        · cases h
        · rename_i l' hl
          cases h
          exact ⟨hk.1, hk.2, rms_ne 4 2 [] _ hl⟩
      · cases h
  · cases h
end CG
theorem MS.sea {m m' : MT} {S : ST} {il : Nat} {l : List Mo} (h : MS m S) (hl : 2 ≤ il ∧ il ≤ 6 ∧ 1 ≤ l.length) (h3 : l.length ≤ 3) (e5 : m'.1 5 = nI il) (e6 : m'.1 6 = nI l.length) (e16 : m'.1 16 = nI 0) (et : m'.1 1 = m.1 1) (ef : m'.1 0 = m.1 0) (hmo : MoA (m'.2 4) (m'.2 5) (m'.2 6) l) (hs : ∀ k, 1 ≤ k → k ≤ 3 → m'.2 k = m.2 k) : MS m' (il, l, [], S.2.2.2.1, S.2.2.2.2.1, S.2.2.2.2.2) := by
  obtain ⟨a1, a2, a3, a4, a5, a6, a7⟩ := h
  refine ⟨e5, ⟨e6, h3, hmo⟩, ⟨e16, Nat.zero_le _, fun i q hq => by cases hq⟩, et.trans a4, ef.trans a5, fun k hk => ?_, Or.inr hl, fun q hq => by cases hq⟩
  rw [hs 1 (by decide) (by decide), hs 2 (by decide) (by decide), hs 3 (by decide) (by decide)]
  exact a6 k hk
theorem u_nI (x : Int32) : ∃ r : Nat, x = nI r := ⟨x.toBitVec.toNat, by
  apply Int32.toBitVec.inj
  show _ = (Int32.ofNat _).toBitVec
  simp [Int32.ofNat]⟩
/-- the moons read are copied, t of them -/
def CpM (M m : MT) (t : Nat) : Prop := m.1 = M.1 ∧ (∀ k, k ≠ 4 → k ≠ 5 → k ≠ 6 → m.2 k = M.2 k) ∧ ∀ i, i < t → m.2 4 i = M.2 7 i ∧ m.2 5 i = M.2 8 i ∧ m.2 6 i = M.2 9 i
theorem CpM.step {M m : MT} {t : Nat} (h : CpM M m t) : CpM M (m.1, va_up (va_up (va_up m.2 4 (upd (m.2 4) t (M.2 7 t))) 5 (upd (m.2 5) t (M.2 8 t))) 6 (upd (m.2 6) t (M.2 9 t))) (t + 1) := by
  obtain ⟨h1, h2, h3⟩ := h
  refine ⟨h1, fun k k4 k5 k6 => by simp [va_up, k4, k5, k6]; exact h2 k k4 k5 k6, fun i hi => ?_⟩
  by_cases e : i = t
  · subst e
    simp [va_up, upd]
  · have := h3 i (by omega)
    simp [va_up, upd, e]
    exact this
