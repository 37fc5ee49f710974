/-! NUMBERS: constants, bits of ints, branches on truth values -/
set_option maxRecDepth 100000
theorem bi_m104 : (Int8.ofInt (-104)).toInt32 = (-104) := by decide
theorem bi_m101 : (Int8.ofInt (-101)).toInt32 = (-101) := by decide
theorem bi_m100 : (Int8.ofInt (-100)).toInt32 = (-100) := by decide
theorem bi_m99 : (Int8.ofInt (-99)).toInt32 = (-99) := by decide
theorem bi_m10 : (Int8.ofInt (-10)).toInt32 = (-10) := by decide
theorem bi_m9 : (Int8.ofInt (-9)).toInt32 = (-9) := by decide
theorem bi_m4 : (Int8.ofInt (-4)).toInt32 = (-4) := by decide
theorem bi_m3 : (Int8.ofInt (-3)).toInt32 = (-3) := by decide
theorem bi_m2 : (Int8.ofInt (-2)).toInt32 = (-2) := by decide
theorem bi_6 : (Int8.ofInt 6).toInt32 = nI 6 := by decide
theorem bi_8 : (Int8.ofInt 8).toInt32 = nI 8 := by decide
theorem bi_9 : (Int8.ofInt 9).toInt32 = nI 9 := by decide
theorem bi_10 : (Int8.ofInt 10).toInt32 = nI 10 := by decide
theorem bi_30 : (Int8.ofInt 30).toInt32 = nI 30 := by decide
theorem bi_31 : (Int8.ofInt 31).toInt32 = nI 31 := by decide
theorem bi_40 : (Int8.ofInt 40).toInt32 = nI 40 := by decide
theorem bi_48 : (Int8.ofInt 48).toInt32 = nI 48 := by decide
theorem bi_57 : (Int8.ofInt 57).toInt32 = nI 57 := by decide
theorem bi_59 : (Int8.ofInt 59).toInt32 = nI 59 := by decide
theorem bi_60 : (Int8.ofInt 60).toInt32 = nI 60 := by decide
theorem bi_61 : (Int8.ofInt 61).toInt32 = nI 61 := by decide
theorem bi_100 : (Int8.ofInt 100).toInt32 = nI 100 := by decide
theorem bi_109 : (Int8.ofInt 109).toInt32 = nI 109 := by decide
theorem bi_115 : (Int8.ofInt 115).toInt32 = nI 115 := by decide
theorem ic_m1 : Int32.ofInt (-1) = (-1) := by decide
theorem ic_0 : Int32.ofInt 0 = nI 0 := by decide
theorem ic_1 : Int32.ofInt 1 = nI 1 := by decide
theorem ic_2 : Int32.ofInt 2 = nI 2 := by decide
theorem ic_3 : Int32.ofInt 3 = nI 3 := by decide
theorem ic_4 : Int32.ofInt 4 = nI 4 := by decide
theorem ic_5 : Int32.ofInt 5 = nI 5 := by decide
theorem si_240 : (Int16.ofInt 240).toInt32 = nI 240 := by decide
theorem si_400 : (Int16.ofInt 400).toInt32 = nI 400 := by decide
theorem si_1999 : (Int16.ofInt 1999).toInt32 = nI 1999 := by decide
theorem si_2000 : (Int16.ofInt 2000).toInt32 = nI 2000 := by decide
theorem si_2001 : (Int16.ofInt 2001).toInt32 = nI 2001 := by decide
theorem si_9999 : (Int16.ofInt 9999).toInt32 = nI 9999 := by decide
theorem si_20010 : (Int16.ofInt 20010).toInt32 = nI 20010 := by decide
theorem lc_0 : Int64.ofNat ((0 : Fin 2) : Nat) = lN 0 := rfl
theorem lc_1 : Int64.ofNat ((1 : Fin 2) : Nat) = lN 1 := rfl
theorem inc1 {a : Nat} : nI a + Int32.ofInt 1 = nI (a + 1) := nI_1 a
theorem incm1 {a : Nat} : nI (a + 1) + Int32.ofInt (-1) = nI a := pk_m1 a
theorem inc6 {a : Nat} : nI a + Int32.ofInt 6 = nI (a + 6) := nI_add a 6
theorem sw0 {α : Type} {x y a0 a1 : α} {l : List α} : ((a0 :: a1 :: l).set 0 x).set (0 + 1) y = x :: y :: l := rfl
theorem sw1 {α : Type} {x y a0 a1 a2 : α} {l : List α} : ((a0 :: a1 :: a2 :: l).set 1 x).set (1 + 1) y = a0 :: x :: y :: l := rfl
theorem sw2 {α : Type} {x y a0 a1 a2 a3 : α} {l : List α} : ((a0 :: a1 :: a2 :: a3 :: l).set 2 x).set (2 + 1) y = a0 :: a1 :: x :: y :: l := rfl
theorem sw3 {α : Type} {x y a0 a1 a2 a3 a4 : α} {l : List α} : ((a0 :: a1 :: a2 :: a3 :: a4 :: l).set 3 x).set (3 + 1) y = a0 :: a1 :: a2 :: x :: y :: l := rfl
theorem sw4 {α : Type} {x y a0 a1 a2 a3 a4 a5 : α} {l : List α} : ((a0 :: a1 :: a2 :: a3 :: a4 :: a5 :: l).set 4 x).set (4 + 1) y = a0 :: a1 :: a2 :: a3 :: x :: y :: l := rfl
theorem sw5 {α : Type} {x y a0 a1 a2 a3 a4 a5 a6 : α} {l : List α} : ((a0 :: a1 :: a2 :: a3 :: a4 :: a5 :: a6 :: l).set 5 x).set (5 + 1) y = a0 :: a1 :: a2 :: a3 :: a4 :: x :: y :: l := rfl
theorem sw7 {α : Type} {x y a0 a1 a2 a3 a4 a5 a6 a7 a8 : α} {l : List α} : ((a0 :: a1 :: a2 :: a3 :: a4 :: a5 :: a6 :: a7 :: a8 :: l).set 7 x).set (7 + 1) y = a0 :: a1 :: a2 :: a3 :: a4 :: a5 :: a6 :: x :: y :: l := rfl
theorem sw9 {α : Type} {x y a0 a1 a2 a3 a4 a5 a6 a7 a8 a9 a10 : α} {l : List α} : ((a0 :: a1 :: a2 :: a3 :: a4 :: a5 :: a6 :: a7 :: a8 :: a9 :: a10 :: l).set 9 x).set (9 + 1) y = a0 :: a1 :: a2 :: a3 :: a4 :: a5 :: a6 :: a7 :: a8 :: x :: y :: l := rfl
/-- a truth value as an int -/
def bI (b : Bool) : Int32 := match b with
  | true => nI 1
  | false => nI 0
theorem nb_b (b : Bool) : narrow .boolean (.int (bI b)) = .int (bI b) := by cases b <;> rfl
theorem nb_0 : narrow .boolean (.int (nI 0)) = .int (nI 0) := rfl
theorem nb_1 : narrow .boolean (.int (nI 1)) = .int (nI 1) := rfl
theorem bI_t {b : Bool} (h : b = true) : bI b = nI 1 := by subst h; rfl
theorem bI_f {b : Bool} (h : b = false) : bI b = nI 0 := by subst h; rfl
theorem bI_0 {b : Bool} : bI b = 0 ↔ b = false := by cases b <;> decide
section BROWS
variable {w : WE} {M : MI} {R : Room} {Z : ZT} {k n : Nat} {A : Hp} {pc : Nat} {lo : List (Option Value)} {st : List Value}
theorem r_if_eqB {b : Bool} {off : Int} (tgt nx : Nat) (hd : decode M.2.1 pc = .ok (.ifCond .eq off, 3)) (hn : pc + 3 = nx) (ht : (pc : Int) + off = (tgt : Int)) (K1 : b = false → Rn w M R Z k n A tgt lo st) (K2 : b = true → Rn w M R Z k n A nx lo st) : Rn w M R Z k n A pc lo (.int (bI b) :: st) :=
  r_if_eq tgt nx hd hn ht (fun h => K1 (bI_0.mp h)) (fun h => K2 (by cases b with | true => rfl | false => exact absurd (bI_0.mpr rfl) h))
theorem r_if_neB {b : Bool} {off : Int} (tgt nx : Nat) (hd : decode M.2.1 pc = .ok (.ifCond .ne off, 3)) (hn : pc + 3 = nx) (ht : (pc : Int) + off = (tgt : Int)) (K1 : b = true → Rn w M R Z k n A tgt lo st) (K2 : b = false → Rn w M R Z k n A nx lo st) : Rn w M R Z k n A pc lo (.int (bI b) :: st) :=
  r_if_ne tgt nx hd hn ht (fun h => K1 (by cases b with | true => rfl | false => exact absurd (bI_0.mpr rfl) h)) (fun h => K2 (bI_0.mp h))
end BROWS
theorem lg_lt (x y : Int64) : lg_cmp x y < 0 ↔ x.toInt < y.toInt := by
  unfold lg_cmp
  simp only [gt_iff_lt, Int64.lt_iff_toInt_lt, ← Int64.toInt_inj]
  split
  · simp; omega
  · split
    · simp; omega
    · simp; omega
theorem lg_gt (x y : Int64) : 0 < lg_cmp x y ↔ y.toInt < x.toInt := by
  unfold lg_cmp
  simp only [gt_iff_lt, Int64.lt_iff_toInt_lt, ← Int64.toInt_inj]
  split
  · simp; omega
  · split
    · simp; omega
    · simp; omega
/-- ints by their numbers -/
theorem i_lt {x y : Int32} : x < y ↔ x.toInt < y.toInt := Int32.lt_iff_toInt_lt
theorem i_le {x y : Int32} : x ≤ y ↔ x.toInt ≤ y.toInt := Int32.le_iff_toInt_le
theorem i_eq {x y : Int32} : x = y ↔ x.toInt = y.toInt := Int32.toInt_inj.symm
theorem i_zero : (0 : Int32).toInt = 0 := rfl
theorem i_of {x : Int32} {j : Nat} (h : x.toInt = (j : Int)) (hj : j < 2 ^ 31) : x = nI j := i_eq.mpr (by rw [h, nI_toInt hj])
theorem i_lo (x : Int32) : -2147483648 ≤ x.toInt := by have := Int32.le_toInt x; omega
theorem i_hi (x : Int32) : x.toInt < 2147483648 := by have := Int32.toInt_lt x; omega
theorem i_nat {x : Int32} (h : 0 ≤ x.toInt) : ∃ j : Nat, j < 2 ^ 31 ∧ x = nI j ∧ x.toInt = (j : Int) := ⟨x.toInt.toNat, by have := i_hi x; omega, i_of (by omega) (by have := i_hi x; omega), by omega⟩
theorem n0 {j : Nat} (h : 0 < j) (hj : j < 2 ^ 31) : ¬ nI j = 0 := nI_ne0 h hj
theorem m_i {a b : Nat} : nI a * nI b = nI (a * b) := pk_mul a b
