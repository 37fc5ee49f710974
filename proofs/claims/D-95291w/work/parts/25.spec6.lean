/-! looking at cells, tables, books, dry hours -/
set_option maxRecDepth 100000
def fd (p : Nat → Bool) : Nat → Nat → Int32
  | 0, _ => -9
  | j + 1, t => if p t = true then nI t else fd p j (t + 1)
def anyb (p : Nat → Bool) : Nat → Nat → Bool
  | 0, _ => false
  | j + 1, t => if p t = true then true else anyb p j (t + 1)
def allb (p : Nat → Bool) : Nat → Nat → Bool
  | 0, _ => true
  | j + 1, t => if p t = true then allb p j (t + 1) else false
def cntb (p : Nat → Bool) : Nat → Nat → Nat → Nat
  | 0, _, s => s
  | j + 1, t, s => cntb p j (t + 1) (if p t = true then s + 1 else s)
def bset (p : Nat → Bool) : Nat → Nat → Int32 → Int32
  | 0, _, s => s
  | j + 1, b, s => bset p j (b + 1) (if p b = true then s ||| (nI 1 <<< (nI (b - 2) &&& 31)) else s ||| nI 0)
def remz (x y : Int32) : Bool := decide (x - x / y * y = 0)
theorem cntb_le (p : Nat → Bool) : ∀ (j t s : Nat), s ≤ cntb p j t s ∧ cntb p j t s ≤ s + j
  | 0, t, s => ⟨Nat.le_refl _, Nat.le_refl _⟩
  | j + 1, t, s => by
    have h := cntb_le p j (t + 1) (if p t = true then s + 1 else s)
    unfold cntb
    split at h <;> rename_i hp
    · rw [if_pos hp]
      omega
    · rw [if_neg hp]
      omega
/-- what is done with cells of a sheet: the state, the machine's refusals, else f -/
def sp_look (S : ST) (k sort i n : Int32) (pre : Bool) (f : Nat → (Nat → Int32) → Int32 × ST) : Int32 × ST :=
  if ¬ btw k.toInt 0 3 = true then (-1, sF S (nI 0))
  else if ¬ btw sort.toInt 0 2 = true ∨ pre = false then (-2, sF S (nI 0))
  else if ag (S.2.2.2.2.2 k.toInt.toNat) sort i n = 0 then f n.toInt.toNat (fun t => ((S.2.2.2.2.2 k.toInt.toNat).getD (0, 0, fun _ => 0)).2.2 (i.toInt.toNat + t))
  else (fl (ag (S.2.2.2.2.2 k.toInt.toNat) sort i n), sF S (nI (ag (S.2.2.2.2.2 k.toInt.toNat) sort i n)))
theorem ag_le (o : Option Sh) (sort i n : Int32) : ag o sort i n ≤ 4 := by
  unfold ag
  split
  · decide
  · split
    · decide
    · split
      · decide
      · split <;> decide
theorem ag_0 {o : Option Sh} {sort i n : Int32} (h : ag o sort i n = 0) (hl : ∀ q, o = some q → q.2.1 ≤ 60) : ∃ (q : Sh) (i' n' : Nat), o = some q ∧ sort = nI q.1 ∧ i = nI i' ∧ n = nI n' ∧ i' + n' ≤ q.2.1 ∧ q.2.1 ≤ 60 := by
  unfold ag at h
  cases o with
  | none => simp at h
  | some q =>
    have hq := hl q rfl
    dsimp only at h
    split at h
    · simp at h
    · split at h
      · simp at h
      · split at h
        · simp at h
        · rename_i h1 h2 h3
          simp only [not_or] at h3
          obtain ⟨h4, h5, h6⟩ := h3
          have e1 : sort = nI q.1 := by
            have : nI q.1 = sort := Classical.byContradiction h1
            exact this.symm
          have g2 : ¬ n.toInt < 0 := fun x => h2 (i_lt.mpr (by rw [z_om]; exact x))
          have g4 : ¬ i.toInt < 0 := fun x => h4 (i_lt.mpr (by rw [z_om]; exact x))
          have g5 : ¬ (nI q.2.1).toInt < i.toInt := fun x => h5 (i_lt.mpr x)
          have g6 : ¬ (nI q.2.1 - i).toInt < n.toInt := fun x => h6 (i_lt.mpr x)
          rw [sb_om] at g6
          rw [nI_toInt (by omega)] at g5 g6
          obtain ⟨i', a1, a2, a3⟩ := i_nat (x := i) (by omega)
          obtain ⟨n', b1, b2, b3⟩ := i_nat (x := n) (by omega)
          exact ⟨q, i', n', rfl, e1, a2, b2, by omega, hq⟩
theorem look_no {S : ST} {k sort i n : Int32} {pre : Bool} {f : Nat → (Nat → Int32) → Int32 × ST} (h : btw k.toInt 0 3 = false) : sp_look S k sort i n pre f = (-1, sF S (nI 0)) := by
  unfold sp_look
  rw [if_pos (by rw [h]; decide)]
theorem look_out {S : ST} {k sort i n : Int32} {pre : Bool} {f : Nat → (Nat → Int32) → Int32 × ST} (h : btw k.toInt 0 3 = true) (h2 : btw sort.toInt 0 2 = false ∨ pre = false) : sp_look S k sort i n pre f = (-2, sF S (nI 0)) := by
  unfold sp_look
  rw [if_neg (fun x => x h), if_pos (h2.imp (fun a => by rw [a]; decide) id)]
theorem look_bad {S : ST} {k : Nat} {sort i n : Int32} {pre : Bool} {f : Nat → (Nat → Int32) → Int32 × ST} {a : Nat} (hk : k < 4) (h2 : btw sort.toInt 0 2 = true) (h3 : pre = true) (h4 : ¬ a = 0) (ha : ag (S.2.2.2.2.2 k) sort i n = a) : sp_look S (nI k) sort i n pre f = (fl a, sF S (nI a)) := by
  subst ha
  unfold sp_look
  rw [if_neg (fun x => x (btw_t.mpr (by rw [nI_toInt (by omega)]; omega))), if_neg (fun x => x.elim (fun a => a h2) (fun a => by rw [h3] at a; cases a)), nI_nat (by omega), if_neg h4]
theorem look_ok {S : ST} {k i n : Nat} {sort : Int32} {pre : Bool} {f : Nat → (Nat → Int32) → Int32 × ST} {q : Sh} (hk : k < 4) (h2 : btw sort.toInt 0 2 = true) (h3 : pre = true) (h4 : ag (S.2.2.2.2.2 k) sort (nI i) (nI n) = 0) (hq : S.2.2.2.2.2 k = some q) (hi : i < 2 ^ 31) (hn : n < 2 ^ 31) : sp_look S (nI k) sort (nI i) (nI n) pre f = f n (fun t => q.2.2 (i + t)) := by
  unfold sp_look
  rw [if_neg (fun x => x (btw_t.mpr (by rw [nI_toInt (by omega)]; omega))), if_neg (fun x => x.elim (fun a => a h2) (fun a => by rw [h3] at a; cases a)), nI_nat (j := k) (by omega), if_pos h4, nI_nat hi, nI_nat hn, hq]
  rfl
def sp_table (S : ST) (hour k sort i n : Int32) : Int32 × ST := sp_look S k sort i n (btw hour.toInt 0 1999) (fun n c =>
  if S.1 = 0 then (-3, sF S (nI 0)) else if 2000 < hour.toInt.toNat + n then (-2, sF S (nI 0)) else (fd (fun t => !decide (c t = nI (lvl S.2.1 (hour.toInt.toNat + t)))) n 0, sF S (nI 0)))
/-- what is wrong with a book's cell -/
def bad (c : Nat → Int32) (t : Nat) : Bool := !btw (c t).toInt 0 1999 || (decide (0 < t) && decide (c t ≤ c (t - 1)))
def sp_book (S : ST) (k sort i n : Int32) : Int32 × ST := sp_look S k sort i n true (fun n c =>
  if anyb (bad c) n 0 = true then (-2, sF S (nI 0)) else (bset (fun b => allb (fun t => remz (c t - c 0) (nI b)) (n - 1) 1) 29 2 (nI 0), sF S (nI 0)))
def sp_dryHours (S : ST) (x from_ till which : Int32) : Int64 := match ix S.2.2.1 x with
  | none => LOST
  | some q => if btw from_.toInt 0 1999 = true ∧ from_.toInt < till.toInt ∧ till.toInt ≤ 2000 ∧ btw which.toInt 0 1 = true then
      (let d := till.toInt.toNat - from_.toInt.toNat
       let c := cntb (isD S.2.1 q) d from_.toInt.toNat 0
       lN ((if which.toInt = 0 then c else d) / Nat.gcd c d)) else LOST
section LR
variable {w : WE} {M : MI} {R : Room} {Z : ZT} {k n : Nat} {A : Hp} {pc : Nat} {lo : List (Option Value)} {st : List Value}
theorem r_ldivN {a b : Nat} (nx : Nat) (hd : decode M.2.1 pc = .ok (.ldiv, 1)) (hn : pc + 1 = nx) (h1 : a < 2 ^ 63) (h2 : 0 < b) (h3 : b < 2 ^ 63) (K : Rn w M R Z k n A nx lo (.long (lN (a / b)) :: st)) : Rn w M R Z k n A pc lo (.long (lN b) :: .long (lN a) :: st) := r_ldiv nx hd hn (fun e => by have := (pk_lEQ (a := b) (b := 0) h3 (by decide)).mp e; omega) (by rw [pk_lDiv h1 h2 h3]; exact K)
theorem r_lremN {a b : Nat} (nx : Nat) (hd : decode M.2.1 pc = .ok (.lrem, 1)) (hn : pc + 1 = nx) (h1 : a < 2 ^ 63) (h2 : 0 < b) (h3 : b < 2 ^ 63) (K : Rn w M R Z k n A nx lo (.long (lN (a % b)) :: st)) : Rn w M R Z k n A pc lo (.long (lN b) :: .long (lN a) :: st) := r_lrem nx hd hn (fun e => by have := (pk_lEQ (a := b) (b := 0) h3 (by decide)).mp e; omega) (by rw [pk_lRem h1 h2 h3]; exact K)
end LR
theorem lg_z {b : Nat} (h : b < 2 ^ 63) : lg_cmp (lN b) (lN 0) = 0 ↔ b = 0 := by
  by_cases e : b = 0
  · subst e
    decide
  · have h2 : lN b > lN 0 := (pk_lLT (by decide) h).mpr (by omega)
    unfold lg_cmp
    rw [if_pos h2]
    exact ⟨fun x => absurd x (by decide), fun x => absurd x e⟩
theorem anyb_t {p : Nat → Bool} {j t : Nat} (h : p t = true) : anyb p (j + 1) t = true := if_pos h
theorem anyb_f {p : Nat → Bool} {j t : Nat} (h : p t = false) : anyb p (j + 1) t = anyb p j (t + 1) := if_neg (by rw [h]; decide)
theorem bad_1 {c : Nat → Int32} {t : Nat} (h : btw (c t).toInt 0 1999 = false) : bad c t = true := by
  unfold bad
  rw [h]
  rfl
theorem bad_2 {c : Nat → Int32} {t : Nat} (h : 0 < t) (h2 : ¬ c (t - 1) < c t) : bad c t = true := by
  have h3 : c t ≤ c (t - 1) := i_le.mpr (by
    have : ¬ (c (t - 1)).toInt < (c t).toInt := fun x => h2 (i_lt.mpr x)
    omega)
  unfold bad
  rw [decide_eq_true h, decide_eq_true h3]
  simp
theorem bad_0 {c : Nat → Int32} {t : Nat} (h : btw (c t).toInt 0 1999 = true) (h2 : t ≤ 0 ∨ c (t - 1) < c t) : bad c t = false := by
  unfold bad
  rw [h]
  rcases h2 with h2 | h2
  · rw [decide_eq_false (show ¬ 0 < t by omega)]
    rfl
  · rw [decide_eq_false (show ¬ c t ≤ c (t - 1) from fun x => by have := i_le.mp x; have := i_lt.mp h2; omega)]
    simp
theorem rq {x y : Int32} (h : y = x) : some (Value.int x) = some (Value.int y) := by rw [h]
