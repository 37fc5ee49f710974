/-! ints for omega -/
set_option maxRecDepth 100000
theorem bm_om (x : Int) : x.bmod 4294967296 = (x + 2147483648) % 4294967296 - 2147483648 := by
  rw [Int.bmod_def]
  split <;> omega
theorem nI_om (n : Nat) : (nI n).toInt = ((n : Int) + 2147483648) % 4294967296 - 2147483648 := by
  have : (nI n).toInt = (n : Int).bmod 4294967296 := Int32.toInt_ofNat
  rw [this, bm_om]
theorem ad_om (x y : Int32) : (x + y).toInt = (x.toInt + y.toInt + 2147483648) % 4294967296 - 2147483648 := by
  rw [Int32.toInt_add]
  exact bm_om _
theorem sb_om (x y : Int32) : (x - y).toInt = (x.toInt - y.toInt + 2147483648) % 4294967296 - 2147483648 := by
  rw [Int32.toInt_sub]
  exact bm_om _
theorem z_om : (0 : Int32).toInt = 0 := rfl
theorem im1 : (-1 : Int32).toInt = -1 := by decide
theorem im2 : (-2 : Int32).toInt = -2 := by decide
theorem im3 : (-3 : Int32).toInt = -3 := by decide
theorem im4 : (-4 : Int32).toInt = -4 := by decide
theorem im9 : (-9 : Int32).toInt = -9 := by decide
theorem im10 : (-10 : Int32).toInt = -10 := by decide
theorem im99 : (-99 : Int32).toInt = -99 := by decide
theorem im100 : (-100 : Int32).toInt = -100 := by decide
theorem im101 : (-101 : Int32).toInt = -101 := by decide
theorem im104 : (-104 : Int32).toInt = -104 := by decide
theorem bd_t {P : Prop} (i : Decidable P) (h : P) : bI (@decide P i) = nI 1 := by
  rw [decide_eq_true h]
  rfl
theorem bd_f {P : Prop} (i : Decidable P) (h : ¬ P) : bI (@decide P i) = nI 0 := by
  rw [decide_eq_false h]
  rfl
/-- v lies between a and b -/
def btw (v a b : Int) : Bool := decide (a ≤ v ∧ v ≤ b)
theorem btw_t {v a b : Int} : btw v a b = true ↔ a ≤ v ∧ v ≤ b := decide_eq_true_iff
theorem btw_f {v a b : Int} : btw v a b = false ↔ ¬ (a ≤ v ∧ v ≤ b) := decide_eq_false_iff_not
theorem bt_1 {v a b : Int} (h : a ≤ v ∧ v ≤ b) : nI 1 = bI (btw v a b) := (bd_t _ h).symm
theorem bt_0 {v a b : Int} (h : ¬ (a ≤ v ∧ v ≤ b)) : nI 0 = bI (btw v a b) := (bd_f _ h).symm
theorem rv {x y : Int32} {A : Hp} (h : x = y) : QV (.int y) A (some (.int x)) A := ⟨by rw [h], rfl⟩
theorem rvl {x y : Int64} {A : Hp} (h : x = y) : QV (.long y) A (some (.long x)) A := ⟨by rw [h], rfl⟩
theorem plJ0 : plainName "java/util/AbstractCollection" = true := by decide +kernel
theorem plJ1 : plainName "java/util/AbstractList" = true := by decide +kernel
theorem plJ10 : plainName "java/lang/NegativeArraySizeException" = true := by decide +kernel
theorem plJ11 : plainName "java/lang/IndexOutOfBoundsException" = true := by decide +kernel
theorem plJ12 : plainName "java/lang/ArrayIndexOutOfBoundsException" = true := by decide +kernel
theorem plJ14 : plainName "java/util/Objects" = true := by decide +kernel
theorem plJ15 : plainName "jdk/internal/util/Preconditions" = true := by decide +kernel
theorem plJ16 : plainName "jdk/internal/util/ArraysSupport" = true := by decide +kernel
theorem plJ17 : plainName "java/util/Arrays" = true := by decide +kernel
theorem plJ2 : plainName "java/util/ArrayList" = true := by decide +kernel
theorem plJ3 : plainName "java/lang/Throwable" = true := by decide +kernel
theorem plJ4 : plainName "java/lang/Exception" = true := by decide +kernel
theorem plJ5 : plainName "java/lang/RuntimeException" = true := by decide +kernel
theorem plJ6 : plainName "java/lang/NullPointerException" = true := by decide +kernel
theorem plJ7 : plainName "java/lang/ClassCastException" = true := by decide +kernel
theorem plJ8 : plainName "java/lang/String" = true := by decide +kernel
theorem plJ9 : plainName "java/lang/ArrayStoreException" = true := by decide +kernel
theorem plX0 : plainName "ThirdEbb" = true := by decide +kernel
theorem plX1 : plainName "ThirdEbbModel" = true := by decide +kernel
theorem plX10 : plainName "ThirdEbb$Booking" = true := by decide +kernel
theorem plX11 : plainName "ThirdEbb$Sheet" = true := by decide +kernel
theorem plX12 : plainName "ThirdEbb$Copying" = true := by decide +kernel
theorem plX13 : plainName "ThirdEbb$Taking" = true := by decide +kernel
theorem plX14 : plainName "ThirdEbb$Staked" = true := by decide +kernel
theorem plX2 : plainName "ThirdEbb$Act" = true := by decide +kernel
theorem plX3 : plainName "ThirdEbb$Looking" = true := by decide +kernel
theorem plX4 : plainName "ThirdEbb$Filling" = true := by decide +kernel
theorem plX5 : plainName "ThirdEbb$Moon" = true := by decide +kernel
theorem plX6 : plainName "ThirdEbb$Soft" = true := by decide +kernel
theorem plX7 : plainName "ThirdEbb$Bridged" = true := by decide +kernel
theorem plX8 : plainName "ThirdEbb$Shifting" = true := by decide +kernel
theorem plX9 : plainName "ThirdEbb$Checking" = true := by decide +kernel
theorem lo16 {α : Type} {a0 a1 a2 a3 a4 a5 a6 a7 a8 a9 a10 a11 a12 a13 a14 a15 a16 : α} {l : List α} : (a0 :: a1 :: a2 :: a3 :: a4 :: a5 :: a6 :: a7 :: a8 :: a9 :: a10 :: a11 :: a12 :: a13 :: a14 :: a15 :: a16 :: l)[16]? = some a16 := rfl
theorem lo17 {α : Type} {a0 a1 a2 a3 a4 a5 a6 a7 a8 a9 a10 a11 a12 a13 a14 a15 a16 a17 : α} {l : List α} : (a0 :: a1 :: a2 :: a3 :: a4 :: a5 :: a6 :: a7 :: a8 :: a9 :: a10 :: a11 :: a12 :: a13 :: a14 :: a15 :: a16 :: a17 :: l)[17]? = some a17 := rfl
theorem lo18 {α : Type} {a0 a1 a2 a3 a4 a5 a6 a7 a8 a9 a10 a11 a12 a13 a14 a15 a16 a17 a18 : α} {l : List α} : (a0 :: a1 :: a2 :: a3 :: a4 :: a5 :: a6 :: a7 :: a8 :: a9 :: a10 :: a11 :: a12 :: a13 :: a14 :: a15 :: a16 :: a17 :: a18 :: l)[18]? = some a18 := rfl
theorem lo19 {α : Type} {a0 a1 a2 a3 a4 a5 a6 a7 a8 a9 a10 a11 a12 a13 a14 a15 a16 a17 a18 a19 : α} {l : List α} : (a0 :: a1 :: a2 :: a3 :: a4 :: a5 :: a6 :: a7 :: a8 :: a9 :: a10 :: a11 :: a12 :: a13 :: a14 :: a15 :: a16 :: a17 :: a18 :: a19 :: l)[19]? = some a19 := rfl
theorem lo20 {α : Type} {a0 a1 a2 a3 a4 a5 a6 a7 a8 a9 a10 a11 a12 a13 a14 a15 a16 a17 a18 a19 a20 : α} {l : List α} : (a0 :: a1 :: a2 :: a3 :: a4 :: a5 :: a6 :: a7 :: a8 :: a9 :: a10 :: a11 :: a12 :: a13 :: a14 :: a15 :: a16 :: a17 :: a18 :: a19 :: a20 :: l)[20]? = some a20 := rfl
theorem lo21 {α : Type} {a0 a1 a2 a3 a4 a5 a6 a7 a8 a9 a10 a11 a12 a13 a14 a15 a16 a17 a18 a19 a20 a21 : α} {l : List α} : (a0 :: a1 :: a2 :: a3 :: a4 :: a5 :: a6 :: a7 :: a8 :: a9 :: a10 :: a11 :: a12 :: a13 :: a14 :: a15 :: a16 :: a17 :: a18 :: a19 :: a20 :: a21 :: l)[21]? = some a21 := rfl
theorem lo22 {α : Type} {a0 a1 a2 a3 a4 a5 a6 a7 a8 a9 a10 a11 a12 a13 a14 a15 a16 a17 a18 a19 a20 a21 a22 : α} {l : List α} : (a0 :: a1 :: a2 :: a3 :: a4 :: a5 :: a6 :: a7 :: a8 :: a9 :: a10 :: a11 :: a12 :: a13 :: a14 :: a15 :: a16 :: a17 :: a18 :: a19 :: a20 :: a21 :: a22 :: l)[22]? = some a22 := rfl
theorem lo23 {α : Type} {a0 a1 a2 a3 a4 a5 a6 a7 a8 a9 a10 a11 a12 a13 a14 a15 a16 a17 a18 a19 a20 a21 a22 a23 : α} {l : List α} : (a0 :: a1 :: a2 :: a3 :: a4 :: a5 :: a6 :: a7 :: a8 :: a9 :: a10 :: a11 :: a12 :: a13 :: a14 :: a15 :: a16 :: a17 :: a18 :: a19 :: a20 :: a21 :: a22 :: a23 :: l)[23]? = some a23 := rfl
theorem lo24 {α : Type} {a0 a1 a2 a3 a4 a5 a6 a7 a8 a9 a10 a11 a12 a13 a14 a15 a16 a17 a18 a19 a20 a21 a22 a23 a24 : α} {l : List α} : (a0 :: a1 :: a2 :: a3 :: a4 :: a5 :: a6 :: a7 :: a8 :: a9 :: a10 :: a11 :: a12 :: a13 :: a14 :: a15 :: a16 :: a17 :: a18 :: a19 :: a20 :: a21 :: a22 :: a23 :: a24 :: l)[24]? = some a24 := rfl
theorem lo25 {α : Type} {a0 a1 a2 a3 a4 a5 a6 a7 a8 a9 a10 a11 a12 a13 a14 a15 a16 a17 a18 a19 a20 a21 a22 a23 a24 a25 : α} {l : List α} : (a0 :: a1 :: a2 :: a3 :: a4 :: a5 :: a6 :: a7 :: a8 :: a9 :: a10 :: a11 :: a12 :: a13 :: a14 :: a15 :: a16 :: a17 :: a18 :: a19 :: a20 :: a21 :: a22 :: a23 :: a24 :: a25 :: l)[25]? = some a25 := rfl
theorem lo26 {α : Type} {a0 a1 a2 a3 a4 a5 a6 a7 a8 a9 a10 a11 a12 a13 a14 a15 a16 a17 a18 a19 a20 a21 a22 a23 a24 a25 a26 : α} {l : List α} : (a0 :: a1 :: a2 :: a3 :: a4 :: a5 :: a6 :: a7 :: a8 :: a9 :: a10 :: a11 :: a12 :: a13 :: a14 :: a15 :: a16 :: a17 :: a18 :: a19 :: a20 :: a21 :: a22 :: a23 :: a24 :: a25 :: a26 :: l)[26]? = some a26 := rfl
theorem lo27 {α : Type} {a0 a1 a2 a3 a4 a5 a6 a7 a8 a9 a10 a11 a12 a13 a14 a15 a16 a17 a18 a19 a20 a21 a22 a23 a24 a25 a26 a27 : α} {l : List α} : (a0 :: a1 :: a2 :: a3 :: a4 :: a5 :: a6 :: a7 :: a8 :: a9 :: a10 :: a11 :: a12 :: a13 :: a14 :: a15 :: a16 :: a17 :: a18 :: a19 :: a20 :: a21 :: a22 :: a23 :: a24 :: a25 :: a26 :: a27 :: l)[27]? = some a27 := rfl
theorem lo28 {α : Type} {a0 a1 a2 a3 a4 a5 a6 a7 a8 a9 a10 a11 a12 a13 a14 a15 a16 a17 a18 a19 a20 a21 a22 a23 a24 a25 a26 a27 a28 : α} {l : List α} : (a0 :: a1 :: a2 :: a3 :: a4 :: a5 :: a6 :: a7 :: a8 :: a9 :: a10 :: a11 :: a12 :: a13 :: a14 :: a15 :: a16 :: a17 :: a18 :: a19 :: a20 :: a21 :: a22 :: a23 :: a24 :: a25 :: a26 :: a27 :: a28 :: l)[28]? = some a28 := rfl
theorem lo29 {α : Type} {a0 a1 a2 a3 a4 a5 a6 a7 a8 a9 a10 a11 a12 a13 a14 a15 a16 a17 a18 a19 a20 a21 a22 a23 a24 a25 a26 a27 a28 a29 : α} {l : List α} : (a0 :: a1 :: a2 :: a3 :: a4 :: a5 :: a6 :: a7 :: a8 :: a9 :: a10 :: a11 :: a12 :: a13 :: a14 :: a15 :: a16 :: a17 :: a18 :: a19 :: a20 :: a21 :: a22 :: a23 :: a24 :: a25 :: a26 :: a27 :: a28 :: a29 :: l)[29]? = some a29 := rfl
theorem lo30 {α : Type} {a0 a1 a2 a3 a4 a5 a6 a7 a8 a9 a10 a11 a12 a13 a14 a15 a16 a17 a18 a19 a20 a21 a22 a23 a24 a25 a26 a27 a28 a29 a30 : α} {l : List α} : (a0 :: a1 :: a2 :: a3 :: a4 :: a5 :: a6 :: a7 :: a8 :: a9 :: a10 :: a11 :: a12 :: a13 :: a14 :: a15 :: a16 :: a17 :: a18 :: a19 :: a20 :: a21 :: a22 :: a23 :: a24 :: a25 :: a26 :: a27 :: a28 :: a29 :: a30 :: l)[30]? = some a30 := rfl
