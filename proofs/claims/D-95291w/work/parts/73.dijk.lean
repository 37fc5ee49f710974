/-! THE CLASS's JOURNEYS: the nearest island first -/
set_option maxRecDepth 100000
theorem or6 : ∀ D, D < 64 → ∀ a, a < 6 → nI D ||| (nI 1 <<< (nI a &&& 31)) = nI (D ||| 2 ^ a) := by decide +kernel
theorem lt6 : ∀ D, D < 64 → ∀ a, a < 6 → D ||| 2 ^ a < 64 := by decide +kernel
theorem in6 : ∀ D, D < 64 → ∀ x, x < 6 → bitb (nI D) x = Nat.testBit D x := by decide +kernel
theorem tb6 : ∀ D, D < 64 → ∀ a, a < 6 → ∀ x, x < 6 → Nat.testBit (D ||| 2 ^ a) x = (Nat.testBit D x || decide (x = a)) := by decide +kernel
theorem cn_add {p p' : Nat → Prop} {a : Nat} (h0 : ¬ p a) (h1 : p' a) : ∀ n, (∀ x, x < n → x ≠ a → (p' x ↔ p x)) → a < n → cn p' n = cn p n + 1
  | 0, _, ha => absurd ha (Nat.not_lt_zero _)
  | n + 1, h, ha => by
    by_cases e : a = n
    · subst e
      rw [cn_t h1, cn_f h0]
      have e1 := cn_mono (p := p) (q := p') a (fun x hx hp => (h x (by omega) (by omega)).mpr hp)
      have e2 := cn_mono (p := p') (q := p) a (fun x hx hp => (h x (by omega) (by omega)).mp hp)
      omega
    · have ih := cn_add h0 h1 n (fun x hx => h x (by omega)) (by omega)
      by_cases hp : p n
      · rw [cn_t hp, cn_t ((h n (by omega) (Ne.symm e)).mpr hp), ih]
      · rw [cn_f hp, cn_f (fun z => hp ((h n (by omega) (Ne.symm e)).mp z)), ih]
theorem cn_full {p : Nat → Prop} {n : Nat} (h : cn p n = n) : ∀ x, x < n → p x := fun x hx => by
  refine Classical.byContradiction (fun hp => ?_)
  have := cn_lt (p := p) (q := fun _ => True) (x := x) trivial hp n (fun _ _ _ => trivial) hx
  have := cn_le (p := fun _ => True) n
  omega
theorem cn_ex {p : Nat → Prop} {n : Nat} (h : cn p n < n) : ∃ x, x < n ∧ ¬ p x := by
  refine Classical.byContradiction (fun hz => ?_)
  have hp : ∀ x, x < n → p x := fun x hx => Classical.byContradiction (fun hn => hz ⟨x, hx, hn⟩)
  have : ∀ m, m ≤ n → cn p m = m := by
    intro m
    induction m with
    | zero => intro _; rfl
    | succ m ih => intro hm; rw [cn_t (hp m (by omega)), ih (by omega)]
  have := this n (Nat.le_refl _)
  omega
section DK
variable {isl : Nat} {ms : List Mo} {herd : Bool} {rs : List Rd} {f h a : Nat} {T T0 T' : Nat → Nat} {D : Nat → Prop} {q : Rd}
def DkI (isl : Nat) (ms : List Mo) (herd : Bool) (rs : List Rd) (f h : Nat) (T : Nat → Nat) (D : Nat → Prop) : Prop :=
  T f ≤ h ∧ (∀ x, T x ≤ 2001) ∧ Snd ms herd rs f h T ∧ (∀ q ∈ rs, ∀ y x s, D y → Jn q y x → T y ≤ 2000 → stt ms q (tkO herd q) (T y) = some s → T x ≤ s + tkO herd q) ∧ ∀ x y, x < isl → y < isl → D x → ¬ D y → T x ≤ T y
/-- a is the nearest that is not done -/
def NrI (isl : Nat) (T : Nat → Nat) (D : Nat → Prop) (a : Nat) : Prop := a < isl ∧ ¬ D a ∧ ∀ y, y < isl → ¬ D y → T a ≤ T y
/-- from a the roads before i are gone -/
def RxI (ms : List Mo) (herd : Bool) (rs : List Rd) (f h a : Nat) (T0 : Nat → Nat) (i : Nat) (T : Nat → Nat) : Prop :=
  T a = T0 a ∧ (∀ z, T z ≤ T0 z) ∧ (∀ z, T z = T0 z ∨ T0 a < T z) ∧ Snd ms herd rs f h T ∧ ∀ k q, k < i → rs[k]? = some q → ∀ x s, Jn q a x → stt ms q (tkO herd q) (T0 a) = some s → T x ≤ s + tkO herd q
theorem RxI.zero (hS : Snd ms herd rs f h T0) : RxI ms herd rs f h a T0 0 T0 := ⟨rfl, fun _ => Nat.le_refl _, fun _ => Or.inl rfl, hS, fun k q hk => absurd hk (Nat.not_lt_zero _)⟩
theorem RxI.skip {i : Nat} (h1 : RxI ms herd rs f h a T0 i T) (hq : rs[i]? = some q) (hn : ¬ (q.2.1 = a ∨ q.2.2.1 = a) ∨ stt ms q (tkO herd q) (T0 a) = none) : RxI ms herd rs f h a T0 (i + 1) T := by
  obtain ⟨a1, a2, a3, a4, a5⟩ := h1
  refine ⟨a1, a2, a3, a4, fun k p hk hp x s hj hs => ?_⟩
  by_cases e : k = i
  · subst e
    cases hq.symm.trans hp
    rcases hn with hn | hn
    · rcases hj with ⟨j1, j2⟩ | ⟨j1, j2⟩
      · exact absurd (Or.inl j1) hn
      · exact absurd (Or.inr j1) hn
    · rw [hn] at hs
      cases hs
  · exact a5 k p (by omega) hp x s hj hs
theorem othr_Jn (hok : RdOk isl q) (hj : q.2.1 = a ∨ q.2.2.1 = a) : Jn q a (othr q a) ∧ othr q a ≠ a := by
  obtain ⟨o1, o2, o3, o4, -⟩ := hok
  unfold othr
  by_cases e : q.2.1 = a
  · rw [if_pos e]
    exact ⟨Or.inl ⟨e, rfl⟩, fun z => o4 (e.trans z.symm)⟩
  · rw [if_neg e]
    exact ⟨Or.inr ⟨hj.resolve_left e, rfl⟩, e⟩
theorem Jn_othr (hok : RdOk isl q) {x : Nat} (hj : Jn q a x) : x = othr q a := by
  obtain ⟨o1, o2, o3, o4, -⟩ := hok
  unfold othr
  rcases hj with ⟨rfl, rfl⟩ | ⟨rfl, rfl⟩
  · rw [if_pos rfl]
  · rw [if_neg o4]
theorem RxI.go {i s : Nat} (h1 : RxI ms herd rs f h a T0 i T) (hq : rs[i]? = some q) (hok : RdOk isl q) (hj : q.2.1 = a ∨ q.2.2.1 = a) (ha : T0 a ≤ 2000) (hs : stt ms q (tkO herd q) (T0 a) = some s) : RxI ms herd rs f h a T0 (i + 1) (upN T (othr q a) (min (T (othr q a)) (s + tkO herd q))) := by
  obtain ⟨a1, a2, a3, a4, a5⟩ := h1
  obtain ⟨j1, j2⟩ := othr_Jn hok hj
  have htk := tkO_le (herd := herd) hok
  have hsl := stt_le ha hs
  have hle : ∀ z, upN T (othr q a) (min (T (othr q a)) (s + tkO herd q)) z ≤ T z := fun z => by
    unfold upN
    split
    · rename_i e
      subst e
      exact Nat.min_le_left _ _
    · exact Nat.le_refl _
  refine ⟨?_, fun z => Nat.le_trans (hle z) (a2 z), fun z => ?_, ?_, fun k p hk hp x s' hx hs' => ?_⟩
  · unfold upN
    rw [if_neg (Ne.symm j2)]
    exact a1
  · unfold upN
    split
    · rename_i e
      subst e
      rcases a3 (othr q a) with h | h
      · by_cases hc : T (othr q a) ≤ s + tkO herd q
        · rw [Nat.min_eq_left hc]
          exact Or.inl h
        · rw [Nat.min_eq_right (by omega)]
          exact Or.inr (by omega)
      · right
        omega
    · exact a3 z
  · by_cases hc : T (othr q a) ≤ s + tkO herd q
    · rw [Nat.min_eq_left hc]
      have e : upN T (othr q a) (T (othr q a)) = T := by
        funext z
        unfold upN
        split
        · rename_i e
          rw [e]
        · rfl
      rw [e]
      exact a4
    · rw [Nat.min_eq_right (by omega)]
      exact a4.up (List.mem_of_getElem? hq) j1 (by rw [a1]; exact ha) (by rw [a1]; exact hs)
  · by_cases e : k = i
    · subst e
      cases hq.symm.trans hp
      cases hs.symm.trans hs'
      rw [Jn_othr hok hx]
      unfold upN
      rw [if_pos rfl]
      exact Nat.min_le_right _ _
    · exact Nat.le_trans (hle x) (a5 k p (by omega) hp x s' hx hs')
theorem RxI.le {i : Nat} (h1 : RxI ms herd rs f h a T0 i T) (hT : ∀ x, T0 x ≤ 2001) (x : Nat) : T x ≤ 2001 := Nat.le_trans (h1.2.1 x) (hT x)
theorem DkI.step (hI : DkI isl ms herd rs f h T0 D) (hN : NrI isl T0 D a) (hok : ∀ q ∈ rs, RdOk isl q) (hR : RxI ms herd rs f h a T0 rs.length T ∨ (2000 < T0 a ∧ T = T0)) {D' : Nat → Prop} (hD : ∀ x, x < isl → (D' x ↔ D x ∨ x = a)) : DkI isl ms herd rs f h T D' := by
  obtain ⟨i1, i2, i3, i4, i5⟩ := hI
  obtain ⟨n1, n2, n3⟩ := hN
  have hJl : ∀ q ∈ rs, ∀ y x, Jn q y x → y < isl ∧ x < isl := fun q hq y x hj => Jn_lt (hok q hq) hj
  rcases hR with ⟨a1, a2, a3, a4, a5⟩ | ⟨h2, rfl⟩
  · have hsame : ∀ x, x < isl → (D x ∨ x = a) → T x = T0 x := fun x hx hd => by
      rcases hd with hd | rfl
      · rcases a3 x with e | e
        · exact e
        · have := i5 x a hx n1 hd n2
          have := a2 x
          omega
      · exact a1
    refine ⟨Nat.le_trans (a2 f) i1, fun x => Nat.le_trans (a2 x) (i2 x), a4, fun q hq y x s hy hj h2 hs => ?_, fun x y hx hy hd hn => ?_⟩
    · obtain ⟨l1, l2⟩ := hJl q hq y x hj
      have hy' := (hD y l1).mp hy
      rw [hsame y l1 hy'] at h2 hs
      rcases hy' with hy' | rfl
      · exact Nat.le_trans (a2 x) (i4 q hq y x s hy' hj h2 hs)
      · obtain ⟨k, hk⟩ := List.getElem?_of_mem hq
        exact a5 k q (List.getElem?_eq_some_iff.mp hk).1 hk x s hj hs
    · have hd' := (hD x hx).mp hd
      have hn' : ¬ D y := fun z => hn ((hD y hy).mpr (Or.inl z))
      rw [hsame x hx hd']
      have h3 := n3 y hy hn'
      have h4 : T0 x ≤ T0 a := by
        rcases hd' with hd' | rfl
        · exact i5 x a hx n1 hd' n2
        · exact Nat.le_refl _
      rcases a3 y with e | e
      · omega
      · omega
  · refine ⟨i1, i2, i3, fun q hq y x s hy hj h3 hs => ?_, fun x y hx hy hd hn => ?_⟩
    · rcases (hD y (hJl q hq y x hj).1).mp hy with hy' | rfl
      · exact i4 q hq y x s hy' hj h3 hs
      · omega
    · have hn' : ¬ D y := fun z => hn ((hD y hy).mpr (Or.inl z))
      rcases (hD x hx).mp hd with hd' | rfl
      · exact i5 x y hx hy hd' hn'
      · exact n3 y hy hn'
theorem DkI.done (hI : DkI isl ms herd rs f h T D) (hok : ∀ q ∈ rs, RdOk isl q) (hh : h ≤ 2000) (hD : ∀ x, x < isl → D x) {x : Nat} (hx : x < isl) : T x = cp (bf isl ms herd rs f h x) := by
  obtain ⟨i1, i2, i3, i4, i5⟩ := hI
  refine cp_bf hok hh ⟨fun x _ h2 => i3 x h2, fun j x t _ hr => clo_lst hh i1 (fun q hq y x s hj h2 hs => i4 q hq y x s (hD y (Jn_lt (hok q hq) hj).1) hj h2 hs) j x t hr⟩ hx (i2 x)
/-- among the islands before i: the nearest that is not done -/
def SlI (T : Nat → Nat) (D : Nat → Prop) (i : Nat) (b : Option Nat) : Prop := (∀ a, b = some a → a < i ∧ ¬ D a ∧ ∀ y, y < i → ¬ D y → T a ≤ T y) ∧ (b = none → ∀ y, y < i → D y)
theorem SlI.zero : SlI T D 0 none := ⟨fun a h => (by cases h), fun _ y hy => absurd hy (Nat.not_lt_zero _)⟩
theorem SlI.keep {i : Nat} {b : Option Nat} (h1 : SlI T D i b) (h2 : D i ∨ ∃ a, b = some a ∧ T a ≤ T i) : SlI T D (i + 1) b := by
  refine ⟨fun a ha => ?_, fun hb y hy => ?_⟩
  · obtain ⟨b1, b2, b3⟩ := h1.1 a ha
    refine ⟨by omega, b2, fun y hy hd => ?_⟩
    by_cases e : y = i
    · subst e
      rcases h2 with h2 | ⟨a', e', h2⟩
      · exact absurd h2 hd
      · cases ha.symm.trans e'
        exact h2
    · exact b3 y (by omega) hd
  · by_cases e : y = i
    · subst e
      rcases h2 with h2 | ⟨a', e', h2⟩
      · exact h2
      · rw [hb] at e'
        cases e'
    · exact h1.2 hb y (by omega)
theorem SlI.take {i : Nat} {b : Option Nat} (h1 : SlI T D i b) (h2 : ¬ D i) (h3 : ∀ a, b = some a → T i ≤ T a) : SlI T D (i + 1) (some i) := by
  refine ⟨fun a ha => ?_, fun hb => by cases hb⟩
  cases ha
  refine ⟨by omega, h2, fun y hy hd => ?_⟩
  by_cases e : y = i
  · rw [e]
    exact Nat.le_refl _
  · cases b with
    | none => exact absurd (h1.2 rfl y (by omega)) hd
    | some a => exact Nat.le_trans (h3 a rfl) ((h1.1 a rfl).2.2 y (by omega) hd)
theorem SlI.end_ {b : Option Nat} (h1 : SlI T D isl b) (hc : cn D isl < isl) : ∃ a, b = some a ∧ NrI isl T D a := by
  cases b with
  | none =>
    obtain ⟨x, hx, hn⟩ := cn_ex hc
    exact absurd (h1.2 rfl x hx) hn
  | some a => exact ⟨a, rfl, h1.1 a rfl⟩
end DK
