/-! calls of the reference's methods that change its world -/
set_option maxRecDepth 100000
abbrev EvMv (w : WE) (M : MI) (d : Nat) (As : List Value) (A : Hp) (P : MT → Prop) : Prop := Ev w M d 0 0 As A (QM w A (fun v m' => v = none ∧ P m'))
abbrev EvMi (w : WE) (M : MI) (d : Nat) (As : List Value) (A : Hp) (r : Int32) (P : MT → Prop) : Prop := Ev w M d 0 0 As A (QM w A (fun v m' => v = some (.int r) ∧ P m'))
abbrev EvMl (w : WE) (M : MI) (d : Nat) (As : List Value) (A : Hp) (r : Int64) (P : MT → Prop) : Prop := Ev w M d 0 0 As A (QM w A (fun v m' => v = some (.long r) ∧ P m'))
section MR2
variable {w : WE} {M : MI} {R : Room} {Z : ZT} {k n : Nat} {A A0 : Hp} {pc : Nat} {lo : List (Option Value)} {st : List Value} {m : MT} {M' : MI} {d' idx : Nat} {P : MT → Prop}
theorem rm_v0 (nx : Nat) (hd : decode M.2.1 pc = .ok (.invokevirtual idx, 3)) (hn : pc + 3 = nx) (S : SiteV M.1.cls idx 1 M' 0) (hm : MR w A m) (hF : Fm w A0 A) (hok : cOk R M'.2.2.1 d' 0 0 k n st = true) (hE : EvMv w M' d' [.ref (mb w)] A P) (K : ∀ (A' : Hp) (m' : MT), P m' → MR w A' m' → Fm w A0 A' → Rn w M R Z k n A' nx lo (st)) : Rn w M R Z k n A pc lo (.ref (mb w) :: st) :=
  rm_c0 nx hd hn S hm hF hok hE (fun A' v m' h hm' hF' => by obtain ⟨rfl, hp⟩ := h; exact K A' m' hp hm' hF')
theorem rm_v1 {v0 : Value} (nx : Nat) (hd : decode M.2.1 pc = .ok (.invokevirtual idx, 3)) (hn : pc + 3 = nx) (S : SiteV M.1.cls idx 1 M' 1) (hm : MR w A m) (hF : Fm w A0 A) (hok : cOk R M'.2.2.1 d' 0 0 k n st = true) (hE : EvMv w M' d' [.ref (mb w), v0] A P) (K : ∀ (A' : Hp) (m' : MT), P m' → MR w A' m' → Fm w A0 A' → Rn w M R Z k n A' nx lo (st)) : Rn w M R Z k n A pc lo (v0 :: .ref (mb w) :: st) :=
  rm_c1 nx hd hn S hm hF hok hE (fun A' v m' h hm' hF' => by obtain ⟨rfl, hp⟩ := h; exact K A' m' hp hm' hF')
theorem rm_v2 {v0 v1 : Value} (nx : Nat) (hd : decode M.2.1 pc = .ok (.invokevirtual idx, 3)) (hn : pc + 3 = nx) (S : SiteV M.1.cls idx 1 M' 2) (hm : MR w A m) (hF : Fm w A0 A) (hok : cOk R M'.2.2.1 d' 0 0 k n st = true) (hE : EvMv w M' d' [.ref (mb w), v0, v1] A P) (K : ∀ (A' : Hp) (m' : MT), P m' → MR w A' m' → Fm w A0 A' → Rn w M R Z k n A' nx lo (st)) : Rn w M R Z k n A pc lo (v1 :: v0 :: .ref (mb w) :: st) :=
  rm_c2 nx hd hn S hm hF hok hE (fun A' v m' h hm' hF' => by obtain ⟨rfl, hp⟩ := h; exact K A' m' hp hm' hF')
theorem rm_v3 {v0 v1 v2 : Value} (nx : Nat) (hd : decode M.2.1 pc = .ok (.invokevirtual idx, 3)) (hn : pc + 3 = nx) (S : SiteV M.1.cls idx 1 M' 3) (hm : MR w A m) (hF : Fm w A0 A) (hok : cOk R M'.2.2.1 d' 0 0 k n st = true) (hE : EvMv w M' d' [.ref (mb w), v0, v1, v2] A P) (K : ∀ (A' : Hp) (m' : MT), P m' → MR w A' m' → Fm w A0 A' → Rn w M R Z k n A' nx lo (st)) : Rn w M R Z k n A pc lo (v2 :: v1 :: v0 :: .ref (mb w) :: st) :=
  rm_c3 nx hd hn S hm hF hok hE (fun A' v m' h hm' hF' => by obtain ⟨rfl, hp⟩ := h; exact K A' m' hp hm' hF')
theorem rm_v4 {v0 v1 v2 v3 : Value} (nx : Nat) (hd : decode M.2.1 pc = .ok (.invokevirtual idx, 3)) (hn : pc + 3 = nx) (S : SiteV M.1.cls idx 1 M' 4) (hm : MR w A m) (hF : Fm w A0 A) (hok : cOk R M'.2.2.1 d' 0 0 k n st = true) (hE : EvMv w M' d' [.ref (mb w), v0, v1, v2, v3] A P) (K : ∀ (A' : Hp) (m' : MT), P m' → MR w A' m' → Fm w A0 A' → Rn w M R Z k n A' nx lo (st)) : Rn w M R Z k n A pc lo (v3 :: v2 :: v1 :: v0 :: .ref (mb w) :: st) :=
  rm_c4 nx hd hn S hm hF hok hE (fun A' v m' h hm' hF' => by obtain ⟨rfl, hp⟩ := h; exact K A' m' hp hm' hF')
theorem rm_v5 {v0 v1 v2 v3 v4 : Value} (nx : Nat) (hd : decode M.2.1 pc = .ok (.invokevirtual idx, 3)) (hn : pc + 3 = nx) (S : SiteV M.1.cls idx 1 M' 5) (hm : MR w A m) (hF : Fm w A0 A) (hok : cOk R M'.2.2.1 d' 0 0 k n st = true) (hE : EvMv w M' d' [.ref (mb w), v0, v1, v2, v3, v4] A P) (K : ∀ (A' : Hp) (m' : MT), P m' → MR w A' m' → Fm w A0 A' → Rn w M R Z k n A' nx lo (st)) : Rn w M R Z k n A pc lo (v4 :: v3 :: v2 :: v1 :: v0 :: .ref (mb w) :: st) :=
  rm_c5 nx hd hn S hm hF hok hE (fun A' v m' h hm' hF' => by obtain ⟨rfl, hp⟩ := h; exact K A' m' hp hm' hF')
theorem rm_i0 {r : Int32} (nx : Nat) (hd : decode M.2.1 pc = .ok (.invokevirtual idx, 3)) (hn : pc + 3 = nx) (S : SiteV M.1.cls idx 1 M' 0) (hm : MR w A m) (hF : Fm w A0 A) (hok : cOk R M'.2.2.1 d' 0 0 k n st = true) (hE : EvMi w M' d' [.ref (mb w)] A r P) (K : ∀ (A' : Hp) (m' : MT), P m' → MR w A' m' → Fm w A0 A' → Rn w M R Z k n A' nx lo (.int r :: st)) : Rn w M R Z k n A pc lo (.ref (mb w) :: st) :=
  rm_c0 nx hd hn S hm hF hok hE (fun A' v m' h hm' hF' => by obtain ⟨rfl, hp⟩ := h; exact K A' m' hp hm' hF')
theorem rm_i1 {v0 : Value} {r : Int32} (nx : Nat) (hd : decode M.2.1 pc = .ok (.invokevirtual idx, 3)) (hn : pc + 3 = nx) (S : SiteV M.1.cls idx 1 M' 1) (hm : MR w A m) (hF : Fm w A0 A) (hok : cOk R M'.2.2.1 d' 0 0 k n st = true) (hE : EvMi w M' d' [.ref (mb w), v0] A r P) (K : ∀ (A' : Hp) (m' : MT), P m' → MR w A' m' → Fm w A0 A' → Rn w M R Z k n A' nx lo (.int r :: st)) : Rn w M R Z k n A pc lo (v0 :: .ref (mb w) :: st) :=
  rm_c1 nx hd hn S hm hF hok hE (fun A' v m' h hm' hF' => by obtain ⟨rfl, hp⟩ := h; exact K A' m' hp hm' hF')
theorem rm_i2 {v0 v1 : Value} {r : Int32} (nx : Nat) (hd : decode M.2.1 pc = .ok (.invokevirtual idx, 3)) (hn : pc + 3 = nx) (S : SiteV M.1.cls idx 1 M' 2) (hm : MR w A m) (hF : Fm w A0 A) (hok : cOk R M'.2.2.1 d' 0 0 k n st = true) (hE : EvMi w M' d' [.ref (mb w), v0, v1] A r P) (K : ∀ (A' : Hp) (m' : MT), P m' → MR w A' m' → Fm w A0 A' → Rn w M R Z k n A' nx lo (.int r :: st)) : Rn w M R Z k n A pc lo (v1 :: v0 :: .ref (mb w) :: st) :=
  rm_c2 nx hd hn S hm hF hok hE (fun A' v m' h hm' hF' => by obtain ⟨rfl, hp⟩ := h; exact K A' m' hp hm' hF')
theorem rm_i3 {v0 v1 v2 : Value} {r : Int32} (nx : Nat) (hd : decode M.2.1 pc = .ok (.invokevirtual idx, 3)) (hn : pc + 3 = nx) (S : SiteV M.1.cls idx 1 M' 3) (hm : MR w A m) (hF : Fm w A0 A) (hok : cOk R M'.2.2.1 d' 0 0 k n st = true) (hE : EvMi w M' d' [.ref (mb w), v0, v1, v2] A r P) (K : ∀ (A' : Hp) (m' : MT), P m' → MR w A' m' → Fm w A0 A' → Rn w M R Z k n A' nx lo (.int r :: st)) : Rn w M R Z k n A pc lo (v2 :: v1 :: v0 :: .ref (mb w) :: st) :=
  rm_c3 nx hd hn S hm hF hok hE (fun A' v m' h hm' hF' => by obtain ⟨rfl, hp⟩ := h; exact K A' m' hp hm' hF')
theorem rm_i4 {v0 v1 v2 v3 : Value} {r : Int32} (nx : Nat) (hd : decode M.2.1 pc = .ok (.invokevirtual idx, 3)) (hn : pc + 3 = nx) (S : SiteV M.1.cls idx 1 M' 4) (hm : MR w A m) (hF : Fm w A0 A) (hok : cOk R M'.2.2.1 d' 0 0 k n st = true) (hE : EvMi w M' d' [.ref (mb w), v0, v1, v2, v3] A r P) (K : ∀ (A' : Hp) (m' : MT), P m' → MR w A' m' → Fm w A0 A' → Rn w M R Z k n A' nx lo (.int r :: st)) : Rn w M R Z k n A pc lo (v3 :: v2 :: v1 :: v0 :: .ref (mb w) :: st) :=
  rm_c4 nx hd hn S hm hF hok hE (fun A' v m' h hm' hF' => by obtain ⟨rfl, hp⟩ := h; exact K A' m' hp hm' hF')
theorem rm_i5 {v0 v1 v2 v3 v4 : Value} {r : Int32} (nx : Nat) (hd : decode M.2.1 pc = .ok (.invokevirtual idx, 3)) (hn : pc + 3 = nx) (S : SiteV M.1.cls idx 1 M' 5) (hm : MR w A m) (hF : Fm w A0 A) (hok : cOk R M'.2.2.1 d' 0 0 k n st = true) (hE : EvMi w M' d' [.ref (mb w), v0, v1, v2, v3, v4] A r P) (K : ∀ (A' : Hp) (m' : MT), P m' → MR w A' m' → Fm w A0 A' → Rn w M R Z k n A' nx lo (.int r :: st)) : Rn w M R Z k n A pc lo (v4 :: v3 :: v2 :: v1 :: v0 :: .ref (mb w) :: st) :=
  rm_c5 nx hd hn S hm hF hok hE (fun A' v m' h hm' hF' => by obtain ⟨rfl, hp⟩ := h; exact K A' m' hp hm' hF')
theorem rm_l0 {r : Int64} (nx : Nat) (hd : decode M.2.1 pc = .ok (.invokevirtual idx, 3)) (hn : pc + 3 = nx) (S : SiteV M.1.cls idx 1 M' 0) (hm : MR w A m) (hF : Fm w A0 A) (hok : cOk R M'.2.2.1 d' 0 0 k n st = true) (hE : EvMl w M' d' [.ref (mb w)] A r P) (K : ∀ (A' : Hp) (m' : MT), P m' → MR w A' m' → Fm w A0 A' → Rn w M R Z k n A' nx lo (.long r :: st)) : Rn w M R Z k n A pc lo (.ref (mb w) :: st) :=
  rm_c0 nx hd hn S hm hF hok hE (fun A' v m' h hm' hF' => by obtain ⟨rfl, hp⟩ := h; exact K A' m' hp hm' hF')
theorem rm_l1 {v0 : Value} {r : Int64} (nx : Nat) (hd : decode M.2.1 pc = .ok (.invokevirtual idx, 3)) (hn : pc + 3 = nx) (S : SiteV M.1.cls idx 1 M' 1) (hm : MR w A m) (hF : Fm w A0 A) (hok : cOk R M'.2.2.1 d' 0 0 k n st = true) (hE : EvMl w M' d' [.ref (mb w), v0] A r P) (K : ∀ (A' : Hp) (m' : MT), P m' → MR w A' m' → Fm w A0 A' → Rn w M R Z k n A' nx lo (.long r :: st)) : Rn w M R Z k n A pc lo (v0 :: .ref (mb w) :: st) :=
  rm_c1 nx hd hn S hm hF hok hE (fun A' v m' h hm' hF' => by obtain ⟨rfl, hp⟩ := h; exact K A' m' hp hm' hF')
theorem rm_l2 {v0 v1 : Value} {r : Int64} (nx : Nat) (hd : decode M.2.1 pc = .ok (.invokevirtual idx, 3)) (hn : pc + 3 = nx) (S : SiteV M.1.cls idx 1 M' 2) (hm : MR w A m) (hF : Fm w A0 A) (hok : cOk R M'.2.2.1 d' 0 0 k n st = true) (hE : EvMl w M' d' [.ref (mb w), v0, v1] A r P) (K : ∀ (A' : Hp) (m' : MT), P m' → MR w A' m' → Fm w A0 A' → Rn w M R Z k n A' nx lo (.long r :: st)) : Rn w M R Z k n A pc lo (v1 :: v0 :: .ref (mb w) :: st) :=
  rm_c2 nx hd hn S hm hF hok hE (fun A' v m' h hm' hF' => by obtain ⟨rfl, hp⟩ := h; exact K A' m' hp hm' hF')
theorem rm_l3 {v0 v1 v2 : Value} {r : Int64} (nx : Nat) (hd : decode M.2.1 pc = .ok (.invokevirtual idx, 3)) (hn : pc + 3 = nx) (S : SiteV M.1.cls idx 1 M' 3) (hm : MR w A m) (hF : Fm w A0 A) (hok : cOk R M'.2.2.1 d' 0 0 k n st = true) (hE : EvMl w M' d' [.ref (mb w), v0, v1, v2] A r P) (K : ∀ (A' : Hp) (m' : MT), P m' → MR w A' m' → Fm w A0 A' → Rn w M R Z k n A' nx lo (.long r :: st)) : Rn w M R Z k n A pc lo (v2 :: v1 :: v0 :: .ref (mb w) :: st) :=
  rm_c3 nx hd hn S hm hF hok hE (fun A' v m' h hm' hF' => by obtain ⟨rfl, hp⟩ := h; exact K A' m' hp hm' hF')
theorem rm_l4 {v0 v1 v2 v3 : Value} {r : Int64} (nx : Nat) (hd : decode M.2.1 pc = .ok (.invokevirtual idx, 3)) (hn : pc + 3 = nx) (S : SiteV M.1.cls idx 1 M' 4) (hm : MR w A m) (hF : Fm w A0 A) (hok : cOk R M'.2.2.1 d' 0 0 k n st = true) (hE : EvMl w M' d' [.ref (mb w), v0, v1, v2, v3] A r P) (K : ∀ (A' : Hp) (m' : MT), P m' → MR w A' m' → Fm w A0 A' → Rn w M R Z k n A' nx lo (.long r :: st)) : Rn w M R Z k n A pc lo (v3 :: v2 :: v1 :: v0 :: .ref (mb w) :: st) :=
  rm_c4 nx hd hn S hm hF hok hE (fun A' v m' h hm' hF' => by obtain ⟨rfl, hp⟩ := h; exact K A' m' hp hm' hF')
theorem rm_l5 {v0 v1 v2 v3 v4 : Value} {r : Int64} (nx : Nat) (hd : decode M.2.1 pc = .ok (.invokevirtual idx, 3)) (hn : pc + 3 = nx) (S : SiteV M.1.cls idx 1 M' 5) (hm : MR w A m) (hF : Fm w A0 A) (hok : cOk R M'.2.2.1 d' 0 0 k n st = true) (hE : EvMl w M' d' [.ref (mb w), v0, v1, v2, v3, v4] A r P) (K : ∀ (A' : Hp) (m' : MT), P m' → MR w A' m' → Fm w A0 A' → Rn w M R Z k n A' nx lo (.long r :: st)) : Rn w M R Z k n A pc lo (v4 :: v3 :: v2 :: v1 :: v0 :: .ref (mb w) :: st) :=
  rm_c5 nx hd hn S hm hF hok hE (fun A' v m' h hm' hF' => by obtain ⟨rfl, hp⟩ := h; exact K A' m' hp hm' hF')
end MR2
theorem qm {w : WE} {A A' : Hp} {m' : MT} {P : Option Value → MT → Prop} {v : Option Value} (hm : MR w A' m') (hF : Fm w A A') (h : P v m') : QM w A P v A' := ⟨m', h, hm, hF⟩
def tb (t : Int32) (k : Nat) : Int32 := nI 31 * t + nI k
def fl (k : Nat) : Int32 := (-10 : Int32) - nI k
def sp_tell (S : ST) (x : Int32) : Int32 × ST := match ix S.2.2.1 x with
  | none => (-1, S)
  | some q => if q.1 = 1 then (nI (q.2.2.2.2.1 + 100), sT S (tb (tb S.2.2.2.1 2) 1)) else if q.1 = 2 then (nI (2 * q.2.2.2.2.1 + 100), sT S (tb (tb (tb (tb S.2.2.2.1 3) 2) 1) 1)) else (nI q.2.2.2.2.1, sT S (tb S.2.2.2.1 1))
def sp_stake (S : ST) (x : Int32) : Int32 × ST := match ix S.2.2.1 x with
  | none => (-1, S)
  | some q => if q.1 = 2 then (nI 40, sT S (tb S.2.2.2.1 5)) else (x, sT S (tb S.2.2.2.1 4))
def sp_as (S : ST) (x sort : Int32) : Int32 × ST := match ix S.2.2.1 x with
  | none => (-1, sF S (nI 0))
  | some q => if btw sort.toInt 0 2 = true then (if sort.toInt ≤ (q.1 : Int) then (nI 1, sF S (nI 0)) else (fl 2, sF S (nI 2))) else (-2, sF S (nI 0))
abbrev LOST : Int64 := -9223372036854775808
/-- another sheet k -/
abbrev sH (S : ST) (k : Nat) (o : Option (Nat × Nat × (Nat → Int32))) : ST := (S.1, S.2.1, S.2.2.1, S.2.2.2.1, S.2.2.2.2.1, va_up S.2.2.2.2.2 k o)
def sp_lose (S : ST) (k : Int32) : Int32 × ST := if btw k.toInt 0 3 = true then (bI (S.2.2.2.2.2 k.toInt.toNat).isSome, sH S k.toInt.toNat none) else (-1, S)
def sp_sheet (S : ST) (k sort n : Int32) : Int32 × ST :=
  if ¬ btw k.toInt 0 3 = true then (-1, sF S (nI 0))
  else if ¬ btw sort.toInt 0 2 = true ∨ 60 < n.toInt then (-2, sF S (nI 0))
  else if n.toInt < 0 then (fl 4, sF S (nI 4))
  else (nI 1, sF (sH S k.toInt.toNat (some (sort.toInt.toNat, n.toInt.toNat, fun _ => 0))) (nI 0))
/-- a value as a lane keeps it -/
def nar (lane : Nat) (v : Int32) : Int32 := if lane = 0 then v.toInt8.toInt32 else if lane = 1 then v.toInt16.toInt32 else v
def sp_put (S : ST) (k i v : Int32) : Int32 × ST :=
  if ¬ btw k.toInt 0 3 = true then (-1, sF S (nI 0))
  else match S.2.2.2.2.2 k.toInt.toNat with
    | none => (fl 1, sF S (nI 1))
    | some q => if btw i.toInt 0 ((q.2.1 : Int) - 1) = true then (nI 1, sF (sH S k.toInt.toNat (some (q.1, q.2.1, upd q.2.2 i.toInt.toNat (nar q.1 v)))) (nI 0)) else (fl 3, sF S (nI 3))
def sp_cell (S : ST) (k i sort : Int32) : Int64 × ST :=
  if ¬ btw k.toInt 0 3 = true ∨ ¬ btw sort.toInt 0 2 = true then (LOST, sF S (nI 0))
  else match S.2.2.2.2.2 k.toInt.toNat with
    | none => (LOST, sF S (nI 1))
    | some q => if (q.1 : Int) ≠ sort.toInt then (LOST, sF S (nI 2)) else if btw i.toInt 0 ((q.2.1 : Int) - 1) = true then ((q.2.2 i.toInt.toNat).toInt64, sF S (nI 0)) else (LOST, sF S (nI 3))
theorem MS.sheet {m : MT} {S : ST} (h : MS m S) {f1 f2 f3 : Nat → Int32} {sh : Nat → Option (Nat × Nat × (Nat → Int32))} (hs : ShR (m.1, va_up (va_up (va_up m.2 1 f1) 2 f2) 3 f3) sh) : MS (m.1, va_up (va_up (va_up m.2 1 f1) 2 f2) 3 f3) (S.1, S.2.1, S.2.2.1, S.2.2.2.1, S.2.2.2.2.1, sh) := ⟨h.1, h.2.1, h.2.2.1, h.2.2.2.1, h.2.2.2.2.1, hs, h.2.2.2.2.2.2⟩
theorem sheet_ok {x : Int32} (h : btw x.toInt 0 3 = true) : ∃ j : Nat, j < 4 ∧ x = nI j := by
  have := btw_t.mp h
  exact ⟨x.toInt.toNat, by omega, i_of (by omega) (by omega)⟩
theorem nI_m9 {a : Nat} (h : a < 2 ^ 31) : ¬ nI a = -9 := fun e => by
  have := congrArg Int32.toInt e
  rw [nI_toInt h, im9] at this
  omega
