/-! journeys as the reference reckons them -/
set_option maxRecDepth 100000
def upN (T : Nat → Nat) (b v : Nat) : Nat → Nat := fun x => if x = b then v else T x
def rlx (ms : List Mo) (q : Rd) (tk a b : Nat) (T : Nat → Nat) : Nat → Nat := if 2000 < T a then T else match stt ms q tk (T a) with
  | none => T
  | some s => if s + tk < T b then upN T b (s + tk) else T
def rlq (ms : List Mo) (herd : Bool) (q : Rd) (T : Nat → Nat) : Nat → Nat := rlx ms q (tkO herd q) q.2.2.1 q.2.1 (rlx ms q (tkO herd q) q.2.1 q.2.2.1 T)
def bfR (ms : List Mo) (herd : Bool) (rs : List Rd) (T : Nat → Nat) : Nat → Nat := rs.foldl (fun T q => rlq ms herd q T) T
def bfN (ms : List Mo) (herd : Bool) (rs : List Rd) : Nat → (Nat → Nat) → Nat → Nat
  | 0, T => T
  | j + 1, T => bfN ms herd rs j (bfR ms herd rs T)
def bf0 (from_ hour : Nat) : Nat → Nat := fun x => if x = from_ then hour else 9999
def bf (isl : Nat) (ms : List Mo) (herd : Bool) (rs : List Rd) (from_ hour : Nat) : Nat → Nat := bfN ms herd rs isl (bf0 from_ hour)
theorem rlx_le {ms : List Mo} {q : Rd} {tk a b x : Nat} {T : Nat → Nat} (h : T x ≤ 9999) : rlx ms q tk a b T x ≤ 9999 := by
  unfold rlx
  split
  · exact h
  · rename_i h2
    cases e : stt ms q tk (T a) with
    | none => exact h
    | some s =>
      have := stt_le (show T a ≤ 2000 by omega) e
      dsimp only
      split
      · unfold upN
        split
        · omega
        · exact h
      · exact h
theorem rlx_9 {ms : List Mo} {q : Rd} {tk a b : Nat} {T : Nat → Nat} (h : 2000 < T a) : rlx ms q tk a b T = T := if_pos h
theorem rlx_n {ms : List Mo} {q : Rd} {tk a b : Nat} {T : Nat → Nat} (h : ¬ 2000 < T a) (e : stt ms q tk (T a) = none) : rlx ms q tk a b T = T := by
  unfold rlx
  rw [if_neg h, e]
theorem rlx_s {ms : List Mo} {q : Rd} {tk a b s : Nat} {T : Nat → Nat} (h : ¬ 2000 < T a) (e : stt ms q tk (T a) = some s) : rlx ms q tk a b T = if s + tk < T b then upN T b (s + tk) else T := by
  unfold rlx
  rw [if_neg h, e]
/-- the hours at which one is there, of the islands -/
def ThR (m : MT) (isl : Nat) (T : Nat → Nat) : Prop := ∀ x, x < isl → m.2 18 x = nI (T x) ∧ T x ≤ 9999
theorem drop_get {α : Type} {l : List α} {i : Nat} {q : α} (h : l[i]? = some q) : l.drop i = q :: l.drop (i + 1) := by
  obtain ⟨h1, h2⟩ := List.getElem?_eq_some_iff.mp h
  rw [List.drop_eq_getElem_cons h1, h2]
theorem bfR_drop {ms : List Mo} {herd : Bool} {rs : List Rd} {i : Nat} {q : Rd} {T : Nat → Nat} (h : rs[i]? = some q) : bfR ms herd (rs.drop i) T = bfR ms herd (rs.drop (i + 1)) (rlq ms herd q T) := by
  rw [drop_get h]
  rfl
theorem JR.eq {m m' : MT} {ms : List Mo} {rs : List Rd} {herd : Bool} (h : JR m ms rs herd) (h1 : m'.2 16 = m.2 16) (h2 : m'.2 17 = m.2 17) : JR m' ms rs herd := fun r q hq => by
  obtain ⟨a, b⟩ := h r q hq
  exact ⟨by rw [h2]; exact a, fun t ht => by rw [h1]; exact b t ht⟩
