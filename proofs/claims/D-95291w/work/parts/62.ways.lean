/-! WAYS -/
set_option maxRecDepth 100000
def oth (q : Rd) (x : Nat) : Option Nat := if q.2.1 = x then some q.2.2.1 else if q.2.2.1 = x then some q.2.1 else none
def othr (q : Rd) (x : Nat) : Nat := if q.2.1 = x then q.2.2.1 else q.2.1
abbrev mayD (ms : List Mo) (herd : Bool) (T : Nat → Nat) (x : Nat) (q : Rd) (y : Nat) : Prop := tkO herd q ≤ T x ∧ T y ≤ T x - tkO herd q ∧ stt ms q (tkO herd q) (T x - tkO herd q) = some (T x - tkO herd q)
/-- one may have come to x by the road q -/
def mayB (ms : List Mo) (herd : Bool) (T : Nat → Nat) (x : Nat) (q : Rd) : Bool := match oth q x with
  | none => false
  | some y => decide (mayD ms herd T x q y)
def btr (herd : Bool) (rs : List Rd) (q : Rd) : Option Nat → Bool
  | none => true
  | some k => match rs[k]? with
    | none => true
    | some p => decide (tkO herd q < tkO herd p)
/-- the road by which one came to x -/
def rdt (ms : List Mo) (herd : Bool) (rs : List Rd) (T : Nat → Nat) (x : Nat) : Nat → Nat → Option Nat → Option Nat
  | 0, _, b => b
  | j + 1, i, b => rdt ms herd rs T x j (i + 1) (match rs[i]? with
    | none => b
    | some q => if mayB ms herd T x q = true ∧ btr herd rs q b = true then some i else b)
/-- the roads of a way from behind -/
def ways (ms : List Mo) (herd : Bool) (rs : List Rd) (T : Nat → Nat) (f : Nat) : Nat → Nat → List Nat
  | 0, _ => []
  | j + 1, x => if x = f then [] else match rdt ms herd rs T x rs.length 0 none with
    | none => []
    | some r => match rs[r]? with
      | none => []
      | some q => r :: ways ms herd rs T f j (othr q x)
def sp_way (S : ST) (f t hour : Int32) (herd : Bool) (q : Int32) : Int32 :=
  if ¬ isI S f = true ∨ ¬ isI S t = true ∨ q.toInt < -1 then -1 else if ¬ btw hour.toInt 0 1999 = true then -2
  else if 2000 < bfS S herd f.toInt.toNat hour.toInt.toNat t.toInt.toNat then -9
  else (let L := ways S.2.1 herd S.2.2.1 (bfS S herd f.toInt.toNat hour.toInt.toNat) f.toInt.toNat 6 t.toInt.toNat
        if q.toInt = -1 then nI L.length else if q.toInt < (L.length : Int) then nI (L.getD (L.length - 1 - q.toInt.toNat) 0) else -9)
section WY
variable {isl : Nat} {ms : List Mo} {herd : Bool} {rs : List Rd} {f h x : Nat} {T : Nat → Nat} {q : Rd}
theorem may_n (h1 : ¬ q.2.1 = x) (h2 : ¬ q.2.2.1 = x) : mayB ms herd T x q = false := by
  unfold mayB oth
  rw [if_neg h1, if_neg h2]
theorem may_1 (h1 : q.2.1 = x) : mayB ms herd T x q = decide (mayD ms herd T x q q.2.2.1) := by
  unfold mayB oth
  rw [if_pos h1]
theorem may_2 (h1 : ¬ q.2.1 = x) (h2 : q.2.2.1 = x) : mayB ms herd T x q = decide (mayD ms herd T x q q.2.1) := by
  unfold mayB oth
  rw [if_neg h1, if_pos h2]
theorem may_y (h : mayB ms herd T x q = true) : Jn q (othr q x) x ∧ mayD ms herd T x q (othr q x) := by
  by_cases h1 : q.2.1 = x
  · rw [may_1 h1] at h
    have := of_decide_eq_true h
    unfold othr
    rw [if_pos h1]
    exact ⟨Or.inr ⟨rfl, h1⟩, this⟩
  · by_cases h2 : q.2.2.1 = x
    · rw [may_2 h1 h2] at h
      have := of_decide_eq_true h
      unfold othr
      rw [if_neg h1]
      exact ⟨Or.inl ⟨rfl, h2⟩, this⟩
    · rw [may_n h1 h2] at h
      cases h
theorem rdt_s {j i : Nat} {b : Option Nat} (hq : rs[i]? = some q) : rdt ms herd rs T x (j + 1) i b = rdt ms herd rs T x j (i + 1) (if mayB ms herd T x q = true ∧ btr herd rs q b = true then some i else b) := by
  conv => lhs; unfold rdt
  rw [hq]
theorem rdt_inv : ∀ (j i : Nat) (b : Option Nat), (∀ r, b = some r → ∃ q, rs[r]? = some q ∧ mayB ms herd T x q = true) → i + j ≤ rs.length →
    (∀ r, rdt ms herd rs T x j i b = some r → ∃ q, rs[r]? = some q ∧ mayB ms herd T x q = true) ∧ ((b ≠ none ∨ ∃ k q, i ≤ k ∧ k < i + j ∧ rs[k]? = some q ∧ mayB ms herd T x q = true) → rdt ms herd rs T x j i b ≠ none)
  | 0, i, b, hb, _ => ⟨hb, fun z => by
      rcases z with z | ⟨k, q, h1, h2, -⟩
      · exact z
      · omega⟩
  | j + 1, i, b, hb, hl => by
    obtain ⟨q, hq⟩ := get_of_lt (l := rs) (i := i) (by omega)
    rw [rdt_s hq]
    by_cases hc : mayB ms herd T x q = true ∧ btr herd rs q b = true
    · rw [if_pos hc]
      have ih := rdt_inv j (i + 1) (some i) (fun r hr => by cases hr; exact ⟨q, hq, hc.1⟩) (by omega)
      exact ⟨ih.1, fun _ => ih.2 (Or.inl (by simp))⟩
    · rw [if_neg hc]
      have ih := rdt_inv j (i + 1) b hb (by omega)
      refine ⟨ih.1, fun z => ih.2 ?_⟩
      rcases z with z | ⟨k, p, h1, h2, h3, h4⟩
      · exact Or.inl z
      · by_cases e : k = i
        · subst e
          cases hq.symm.trans h3
          refine Or.inl (fun hn => hc ⟨h4, ?_⟩)
          rw [hn]
          rfl
        · exact Or.inr ⟨k, p, by omega, by omega, h3, h4⟩
theorem may_ex (hok : ∀ q ∈ rs, RdOk isl q) (hh : h ≤ 2000) (hL : Lst isl ms herd rs f h T) (hx : x ≠ f) : ∀ j, rch ms herd rs f h j x (T x) → ∃ q ∈ rs, mayB ms herd T x q = true
  | 0, hr => absurd hr.1 hx
  | j + 1, hr => by
    rcases hr with hr | ⟨q, y, u, s, hq, hj, hy, hs, e⟩
    · exact may_ex hok hh hL hx j hr
    · obtain ⟨o1, o2, o3, o4, -⟩ := hok q hq
      have h1 := rch_le hh j y u hy
      have h2 := stt_le h1.2 hs
      have h3 := stt_idem h1.2 hs
      have hyl : y < isl := by
        rcases hj with ⟨rfl, rfl⟩ | ⟨rfl, rfl⟩
        · exact o2
        · exact o3
      have h4 := hL.2 j y u hyl hy
      have hd : mayD ms herd T x q y := ⟨by omega, by omega, by rw [show T x - tkO herd q = s by omega]; exact h3⟩
      refine ⟨q, hq, ?_⟩
      rcases hj with ⟨rfl, rfl⟩ | ⟨rfl, rfl⟩
      · rw [may_2 o4 rfl]
        exact decide_eq_true hd
      · rw [may_1 rfl]
        exact decide_eq_true hd
theorem rdt_ok (hok : ∀ q ∈ rs, RdOk isl q) (hh : h ≤ 2000) (hL : Lst isl ms herd rs f h T) (hx : x ≠ f) (hxl : x < isl) (h2 : T x ≤ 2000) : ∃ r q, rdt ms herd rs T x rs.length 0 none = some r ∧ rs[r]? = some q ∧ mayB ms herd T x q = true := by
  obtain ⟨j, hj⟩ := hL.1 x hxl h2
  obtain ⟨q, hq, hm⟩ := may_ex hok hh hL hx j hj
  obtain ⟨k, hk⟩ := List.getElem?_of_mem hq
  have hi := rdt_inv (ms := ms) (herd := herd) (rs := rs) (T := T) (x := x) rs.length 0 none (fun r hr => by cases hr) (by omega)
  have hn := hi.2 (Or.inr ⟨k, q, Nat.zero_le _, by have := (List.getElem?_eq_some_iff.mp hk).1; omega, hk, hm⟩)
  rcases e : rdt ms herd rs T x rs.length 0 none with _ | r
  · exact absurd e hn
  · obtain ⟨p, hp, hpm⟩ := hi.1 r e
    exact ⟨r, p, rfl, hp, hpm⟩
/-- how many islands are reached sooner -/
noncomputable abbrev sn (isl : Nat) (T : Nat → Nat) (x : Nat) : Nat := cn (fun z => T z < T x) isl
theorem sn_lt (hx : x < isl) : sn isl T x < isl := by
  have := cn_lt (p := fun z => T z < T x) (q := fun _ => True) (x := x) trivial (Nat.lt_irrefl _) isl (fun _ _ _ => trivial) hx
  have := cn_le (p := fun _ => True) isl
  show cn (fun z => T z < T x) isl < isl
  omega
theorem sn_dec {y : Nat} (hy : y < isl) (h : T y < T x) : sn isl T y < sn isl T x := cn_lt (p := fun z => T z < T y) (q := fun z => T z < T x) (x := y) h (Nat.lt_irrefl _) isl (fun z _ hz => Nat.lt_trans hz h) hy
theorem ways_f {j : Nat} : ways ms herd rs T f j f = [] := by
  cases j with
  | zero => rfl
  | succ j =>
    unfold ways
    rw [if_pos rfl]
theorem ways_s {j r : Nat} (hx : ¬ x = f) (h1 : rdt ms herd rs T x rs.length 0 none = some r) (h2 : rs[r]? = some q) : ways ms herd rs T f (j + 1) x = r :: ways ms herd rs T f j (othr q x) := by
  conv => lhs; unfold ways
  rw [if_neg hx, h1]
  dsimp only
  rw [h2]
theorem Jn_lt (hok : RdOk isl q) {y : Nat} (hj : Jn q y x) : y < isl ∧ x < isl := by
  obtain ⟨o1, o2, o3, o4, -⟩ := hok
  rcases hj with ⟨rfl, rfl⟩ | ⟨rfl, rfl⟩
  · exact ⟨o2, o3⟩
  · exact ⟨o3, o2⟩
end WY
theorem ways_len (ms : List Mo) (herd : Bool) (rs : List Rd) (T : Nat → Nat) (f : Nat) : ∀ j x, (ways ms herd rs T f j x).length ≤ j
  | 0, x => Nat.le_refl _
  | j + 1, x => by
    unfold ways
    split
    · exact Nat.zero_le _
    · split
      · exact Nat.zero_le _
      · split
        · exact Nat.zero_le _
        · exact Nat.succ_le_succ (ways_len ms herd rs T f j _)
theorem en_some {o : Option Nat} {v : Nat} (h : en o = v) (hv : v ≤ 2000) : o = some v := by
  cases o with
  | none => exact absurd h (by show ¬ 9999 = v; omega)
  | some s => exact congrArg some h
theorem btr_n {herd : Bool} {rs : List Rd} {q : Rd} : btr herd rs q none = true := rfl
theorem btr_k {herd : Bool} {rs : List Rd} {q p : Rd} {k : Nat} (hp : rs[k]? = some p) : btr herd rs q (some k) = decide (tkO herd q < tkO herd p) := by
  unfold btr
  dsimp only
  rw [hp]
