/-! crossings: when one can begin next; the reference's scratch -/
set_option maxRecDepth 100000
/-- dry hours on end from hour 2000 - d on -/
def rn (ms : List Mo) (q : Rd) : Nat → Nat
  | 0 => 0
  | d + 1 => if isD ms q (1999 - d) = true then rn ms q d + 1 else 0
/-- the next hour from 2000 - d on in which a crossing of tk hours can begin -/
def nx (ms : List Mo) (q : Rd) (tk : Nat) : Nat → Option Nat
  | 0 => none
  | d + 1 => if tk ≤ rn ms q (d + 1) then some (1999 - d) else nx ms q tk d
def stt (ms : List Mo) (q : Rd) (tk h : Nat) : Option Nat := nx ms q tk (2000 - h)
def tkO (herd : Bool) (q : Rd) : Nat := if herd = true then 2 * q.2.2.2.2.1 else q.2.2.2.2.1
def en (o : Option Nat) : Nat := o.getD 9999
theorem rn_step {ms : List Mo} {q : Rd} {h : Nat} (hh : h < 2000) : rn ms q (2000 - h) = if isD ms q h = true then rn ms q (2000 - (h + 1)) + 1 else 0 := by
  rw [show 2000 - h = (2000 - (h + 1)) + 1 by omega]
  conv => lhs; unfold rn
  rw [show 1999 - (2000 - (h + 1)) = h by omega]
theorem stt_step {ms : List Mo} {q : Rd} {tk h : Nat} (hh : h < 2000) : stt ms q tk h = if tk ≤ rn ms q (2000 - h) then some h else stt ms q tk (h + 1) := by
  unfold stt
  rw [show 2000 - h = (2000 - (h + 1)) + 1 by omega]
  conv => lhs; unfold nx
  rw [show 1999 - (2000 - (h + 1)) = h by omega]
theorem stt_end {ms : List Mo} {q : Rd} {tk : Nat} : stt ms q tk 2000 = none := rfl
theorem rn_le (ms : List Mo) (q : Rd) : ∀ d, rn ms q d ≤ d
  | 0 => Nat.le_refl _
  | d + 1 => by
    unfold rn
    have := rn_le ms q d
    split <;> omega
theorem nx_le {ms : List Mo} {q : Rd} {tk s : Nat} : ∀ d, d ≤ 2000 → nx ms q tk d = some s → 2000 - d ≤ s ∧ s + tk ≤ 2000
  | 0, _, h => by cases h
  | d + 1, hd, h => by
    unfold nx at h
    split at h
    · rename_i hc
      cases h
      have := rn_le ms q (d + 1)
      omega
    · have := nx_le d (by omega) h
      omega
theorem stt_le {ms : List Mo} {q : Rd} {tk h s : Nat} (hh : h ≤ 2000) (e : stt ms q tk h = some s) : h ≤ s ∧ s + tk ≤ 2000 := by
  have := nx_le (2000 - h) (by omega) e
  omega
theorem en_le {ms : List Mo} {q : Rd} {tk h : Nat} (hh : h ≤ 2000) : en (stt ms q tk h) ≤ 9999 := by
  cases e : stt ms q tk h with
  | none => exact Nat.le_refl _
  | some s =>
    have := stt_le hh e
    show s ≤ 9999
    omega
theorem tkO_le {isl : Nat} {herd : Bool} {q : Rd} (h : RdOk isl q) : 1 ≤ tkO herd q ∧ tkO herd q ≤ 12 := by
  obtain ⟨_, _, _, _, _, h6, h7, _⟩ := h
  unfold tkO
  split <;> omega
/-- nothing but scratch has changed -/
def Eqm (m m' : MT) : Prop := (∀ k, k ≠ 26 → m'.1 k = m.1 k) ∧ ∀ k, k ≤ 15 → m'.2 k = m.2 k
theorem Eqm.rf {m : MT} : Eqm m m := ⟨fun _ _ => rfl, fun _ _ => rfl⟩
theorem Eqm.tr {a b c : MT} (h1 : Eqm a b) (h2 : Eqm b c) : Eqm a c := ⟨fun k hk => (h2.1 k hk).trans (h1.1 k hk), fun k hk => (h2.2 k hk).trans (h1.2 k hk)⟩
theorem Eqm.arr {m : MT} {k : Nat} {f : Nat → Int32} (hk : 15 < k) : Eqm m (m.1, va_up m.2 k f) := ⟨fun _ _ => rfl, fun j hj => by simp [va_up]; omega⟩
theorem MS.eqm {m m' : MT} {S : ST} (h : MS m S) (e : Eqm m m') : MS m' S := by
  obtain ⟨a1, a2, a3, a4, a5, a6, a7⟩ := h
  obtain ⟨e1, e2⟩ := e
  refine ⟨(e1 5 (by decide)).trans a1, ⟨(e1 6 (by decide)).trans a2.1, a2.2.1, fun i q hq => ?_⟩, ⟨(e1 16 (by decide)).trans a3.1, a3.2.1, fun i q hq => ?_⟩, (e1 1 (by decide)).trans a4, (e1 0 (by decide)).trans a5, fun k hk => ?_, a7⟩
  · rw [e2 4 (by decide), e2 5 (by decide), e2 6 (by decide)]
    exact a2.2.2 i q hq
  · rw [e2 10 (by decide), e2 11 (by decide), e2 12 (by decide), e2 13 (by decide), e2 14 (by decide), e2 15 (by decide)]
    exact a3.2.2 i q hq
  · rw [e2 1 (by decide), e2 2 (by decide), e2 3 (by decide)]
    exact a6 k hk
/-- the crossings of road r are laid -/
def JR1 (m : MT) (ms : List Mo) (herd : Bool) (r : Nat) (q : Rd) : Prop := m.2 17 r = nI (tkO herd q) ∧ ∀ t, t ≤ 2000 → m.2 16 (2001 * r + t) = nI (en (stt ms q (tkO herd q) t))
def JR (m : MT) (ms : List Mo) (rs : List Rd) (herd : Bool) : Prop := ∀ r q, rs[r]? = some q → JR1 m ms herd r q
def oI (o : Option Nat) : Int32 := match o with
  | none => -9
  | some s => nI s
def sp_next (S : ST) (x hour : Int32) (herd : Bool) : Int32 := match ix S.2.2.1 x with
  | none => -1
  | some q => if btw hour.toInt 0 1999 = true then oI (stt S.2.1 q (tkO herd q) hour.toInt.toNat) else -2
theorem oI_en {o : Option Nat} (h : en o = 9999) (h2 : ∀ s, o = some s → s ≤ 2000) : oI o = -9 := by
  cases o with
  | none => rfl
  | some s => exact absurd (h2 s rfl) (by have : s = 9999 := h; omega)
theorem oI_ne {o : Option Nat} (h : ¬ en o = 9999) : oI o = nI (en o) := by
  cases o with
  | none => exact absurd rfl h
  | some s => rfl
