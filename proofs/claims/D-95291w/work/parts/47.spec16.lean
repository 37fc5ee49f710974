/-! copying between sheets -/
set_option maxRecDepth 100000
def cpOk (a b : Nat) (i j n : Int32) : Bool := decide (0 ≤ i.toInt ∧ 0 ≤ j.toInt ∧ 0 ≤ n.toInt ∧ i.toInt ≤ (a : Int) ∧ j.toInt ≤ (b : Int) ∧ n.toInt ≤ (a : Int) - i.toInt ∧ n.toInt ≤ (b : Int) - j.toInt)
theorem cpOk_t {a b : Nat} {i j n : Int32} : cpOk a b i j n = true ↔ 0 ≤ i.toInt ∧ 0 ≤ j.toInt ∧ 0 ≤ n.toInt ∧ i.toInt ≤ (a : Int) ∧ j.toInt ≤ (b : Int) ∧ n.toInt ≤ (a : Int) - i.toInt ∧ n.toInt ≤ (b : Int) - j.toInt := decide_eq_true_iff
def cpf (f g : Nat → Int32) (i j n : Nat) : Nat → Int32 := fun t => if j ≤ t ∧ t < j + n then f (i + (t - j)) else g t
def sp_copy (S : ST) (k i o j n : Int32) : Int32 × ST :=
  if ¬ btw k.toInt 0 3 = true ∨ ¬ btw o.toInt 0 3 = true then (-1, sF S (nI 0))
  else match S.2.2.2.2.2 k.toInt.toNat with
    | none => (fl 1, sF S (nI 1))
    | some q => match S.2.2.2.2.2 o.toInt.toNat with
      | none => (fl 1, sF S (nI 1))
      | some p => if q.1 ≠ p.1 then (fl 2, sF S (nI 2))
        else if cpOk q.2.1 p.2.1 i j n = true then (n, sF (sH S o.toInt.toNat (some (p.1, p.2.1, cpf q.2.2 p.2.2 i.toInt.toNat j.toInt.toNat n.toInt.toNat))) (nI 0)) else (fl 3, sF S (nI 3))
theorem sp_copy_1 {S : ST} {k o : Nat} {i j n : Int32} (hk : k < 4) (ho : o < 4) (h : S.2.2.2.2.2 k = none ∨ S.2.2.2.2.2 o = none) : sp_copy S (nI k) i (nI o) j n = (fl 1, sF S (nI 1)) := by
  unfold sp_copy
  rw [if_neg (by rw [nI_toInt (by omega), nI_toInt (by omega)]; exact fun z => z.elim (fun a => a (btw_t.mpr (by omega))) (fun a => a (btw_t.mpr (by omega)))), nI_nat (j := k) (by omega), nI_nat (j := o) (by omega)]
  rcases h with h | h
  · rw [h]
  · rw [h]
    cases S.2.2.2.2.2 k <;> rfl
theorem sp_copy_2 {S : ST} {k o : Nat} {i j n : Int32} {q p : Sh} (hk : k < 4) (ho : o < 4) (hq : S.2.2.2.2.2 k = some q) (hp : S.2.2.2.2.2 o = some p) : sp_copy S (nI k) i (nI o) j n = if q.1 ≠ p.1 then (fl 2, sF S (nI 2))
        else if cpOk q.2.1 p.2.1 i j n = true then (n, sF (sH S o (some (p.1, p.2.1, cpf q.2.2 p.2.2 i.toInt.toNat j.toInt.toNat n.toInt.toNat))) (nI 0)) else (fl 3, sF S (nI 3)) := by
  unfold sp_copy
  rw [if_neg (by rw [nI_toInt (by omega), nI_toInt (by omega)]; exact fun z => z.elim (fun a => a (btw_t.mpr (by omega))) (fun a => a (btw_t.mpr (by omega)))), nI_nat (j := k) (by omega), nI_nat (j := o) (by omega), hq, hp]
/-- what the row of all cells holds behind a copy -/
def cpg (f : Nat → Int32) (k i o j a b : Nat) : Nat → Int32 := fun p => if 60 * o + j + a ≤ p ∧ p < 60 * o + j + b then f (60 * k + i + (p - (60 * o + j))) else f p
theorem ShR.cp {m m' : MT} {sh : Nat → Option Sh} {k i o j n : Nat} {q p : Sh} (h : ShR m sh) (hk : k < 4) (ho : o < 4) (hq : sh k = some q) (hp : sh o = some p) (hi : i + n ≤ q.2.1) (hj : j + n ≤ p.2.1) (e1 : m'.2 1 = m.2 1) (e2 : m'.2 2 = m.2 2) (e3 : m'.2 3 = cpg (m.2 3) k i o j 0 n) : ShR m' (va_up sh o (some (p.1, p.2.1, cpf q.2.2 p.2.2 i j n))) := by
  obtain ⟨-, a⟩ := h k hk
  obtain ⟨a1, a2, a3, a4, a5⟩ := a q hq
  obtain ⟨-, b⟩ := h o ho
  obtain ⟨b1, b2, b3, b4, b5⟩ := b p hp
  refine h.gen e1 e2 e3 ⟨(fun z => by cases z), fun r hr => ?_⟩ (fun _ _ => rfl) (fun _ _ => rfl) (fun x y h1 h2 => ?_)
  · cases hr
    refine ⟨b1, b2, b3, b4, fun t ht => ?_⟩
    replace ht : t < p.2.1 := ht
    show cpg (m.2 3) k i o j 0 n (60 * o + t) = cpf q.2.2 p.2.2 i j n t
    unfold cpg cpf
    by_cases c : j ≤ t ∧ t < j + n
    · rw [if_pos (by omega), if_pos c, ← a5 (i + (t - j)) (by omega), show 60 * k + i + (60 * o + t - (60 * o + j)) = 60 * k + (i + (t - j)) by omega]
    · rw [if_neg (by omega), if_neg c, b5 t ht]
  · unfold cpg
    rw [if_neg (by omega)]
/-- one cell more, from the front or from the end -/
theorem cpg_f {f : Nat → Int32} {k i o j t n : Nat} (ht : t < n) (h : j ≤ i ∨ k ≠ o) (hi : i + n ≤ 60) (hj : j + n ≤ 60) : upd (cpg f k i o j 0 t) (60 * o + j + t) (cpg f k i o j 0 t (60 * k + i + t)) = cpg f k i o j 0 (t + 1) := by
  funext p
  have e : cpg f k i o j 0 t (60 * k + i + t) = f (60 * k + i + t) := by
    unfold cpg
    rw [if_neg (by omega)]
  rw [e]
  by_cases c : p = 60 * o + j + t
  · subst c
    rw [upd_s]
    unfold cpg
    rw [if_pos (by omega)]
    congr 1
    omega
  · rw [upd_n c]
    unfold cpg
    by_cases d : 60 * o + j + 0 ≤ p ∧ p < 60 * o + j + t
    · rw [if_pos d, if_pos (by omega)]
    · rw [if_neg d, if_neg (by omega)]
theorem cpg_b {f : Nat → Int32} {k i o j t n : Nat} (ht : t < n) (h : i < j) (hi : i + n ≤ 60) (hj : j + n ≤ 60) : upd (cpg f k i o j (n - t) n) (60 * o + j + (n - 1 - t)) (cpg f k i o j (n - t) n (60 * k + i + (n - 1 - t))) = cpg f k i o j (n - (t + 1)) n := by
  funext p
  have e : cpg f k i o j (n - t) n (60 * k + i + (n - 1 - t)) = f (60 * k + i + (n - 1 - t)) := by
    unfold cpg
    rw [if_neg (by omega)]
  rw [e]
  by_cases c : p = 60 * o + j + (n - 1 - t)
  · subst c
    rw [upd_s]
    unfold cpg
    rw [if_pos (by omega)]
    congr 1
    omega
  · rw [upd_n c]
    unfold cpg
    by_cases d : 60 * o + j + (n - t) ≤ p ∧ p < 60 * o + j + n
    · rw [if_pos d, if_pos (by omega)]
    · rw [if_neg d, if_neg (by omega)]
theorem cpg_0 {f : Nat → Int32} {k i o j a : Nat} : cpg f k i o j a a = f := by
  funext p
  unfold cpg
  rw [if_neg (by omega)]
theorem cp_sub {a : Nat} {i : Int32} (ha : a ≤ 60) (h : 0 ≤ i.toInt) (h2 : i.toInt ≤ (a : Int)) : (nI a - i).toInt = (a : Int) - i.toInt := by
  obtain ⟨j, j1, rfl, j3⟩ := i_nat h
  rw [j3]
  exact pk_sub_toInt (by omega) (by omega)
theorem cp_bad {a b : Nat} {i j n : Int32} (z : cpOk a b i j n = true) (ha : a ≤ 60) (hb : b ≤ 60) (h : i < 0 ∨ j < 0 ∨ n < 0 ∨ nI a < i ∨ nI b < j ∨ nI a - i < n ∨ ¬ n ≤ nI b - j) : False := by
  obtain ⟨z1, z2, z3, z4, z5, z6, z7⟩ := cpOk_t.mp z
  have e1 := cp_sub ha z1 z4
  have e2 := cp_sub hb z2 z5
  rw [i_lt, i_lt, i_lt, i_lt, i_lt, i_lt, i_le, e1, e2, z_om, nI_toInt (by omega), nI_toInt (by omega)] at h
  omega
theorem cp_good {a b : Nat} {i j n : Int32} (ha : a ≤ 60) (hb : b ≤ 60) (h1 : ¬ i < 0) (h2 : ¬ j < 0) (h3 : ¬ n < 0) (h4 : ¬ nI a < i) (h5 : ¬ nI b < j) (h6 : ¬ nI a - i < n) (h7 : n ≤ nI b - j) : cpOk a b i j n = true := by
  rw [i_lt, z_om] at h1 h2 h3
  rw [i_lt, nI_toInt (by omega)] at h4 h5
  rw [i_lt, cp_sub ha (by omega) (by omega)] at h6
  rw [i_le, cp_sub hb (by omega) (by omega)] at h7
  exact cpOk_t.mpr (by omega)
