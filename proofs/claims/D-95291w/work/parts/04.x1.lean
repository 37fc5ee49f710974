/-! ThirdEbbModel -/
set_option maxRecDepth 100000
def RX1 : String := "ThirdEbbModel"
def TX1 : u_T := fun k => match k with
  | 0 => ("ThirdEbbModel", "fault", "I", false)
  | 1 => ("ThirdEbbModel", "trace", "I", false)
  | 2 => ("ThirdEbbModel", "sorts", "[I", true)
  | 3 => ("ThirdEbbModel", "sheetLong", "[I", true)
  | 4 => ("ThirdEbbModel", "cells", "[I", true)
  | 5 => ("ThirdEbbModel", "islands", "I", false)
  | 6 => ("ThirdEbbModel", "moons", "I", false)
  | 7 => ("ThirdEbbModel", "month", "[I", true)
  | 8 => ("ThirdEbbModel", "pull", "[I", true)
  | 9 => ("ThirdEbbModel", "age", "[I", true)
  | 10 => ("ThirdEbbModel", "at", "I", false)
  | 11 => ("ThirdEbbModel", "readIslands", "I", false)
  | 12 => ("ThirdEbbModel", "readMoons", "I", false)
  | 13 => ("ThirdEbbModel", "readMonth", "[I", true)
  | 14 => ("ThirdEbbModel", "readPull", "[I", true)
  | 15 => ("ThirdEbbModel", "readAge", "[I", true)
  | 16 => ("ThirdEbbModel", "roads", "I", false)
  | 17 => ("ThirdEbbModel", "kind", "[I", true)
  | 18 => ("ThirdEbbModel", "one", "[I", true)
  | 19 => ("ThirdEbbModel", "other", "[I", true)
  | 20 => ("ThirdEbbModel", "bed", "[I", true)
  | 21 => ("ThirdEbbModel", "length", "[I", true)
  | 22 => ("ThirdEbbModel", "mended", "[I", true)
  | 23 => ("ThirdEbbModel", "nextAt", "[I", true)
  | 24 => ("ThirdEbbModel", "takes", "[I", true)
  | 25 => ("ThirdEbbModel", "there", "[I", true)
  | 26 => ("ThirdEbbModel", "wayLong", "I", false)
  | 27 => ("ThirdEbbModel", "wayRoads", "[I", true)
  | 28 => ("ThirdEbbModel", "order", "[I", true)
  | 29 => ("ThirdEbbModel", "bestOrder", "[I", true)
  | _ => ("ThirdEbbModel", "met", "[I", true)
def tyX1 : Nat → FieldType := fun k => match k with
  | 0 => .int
  | 1 => .int
  | 2 => .array .int
  | 3 => .array .int
  | 4 => .array .int
  | 5 => .int
  | 6 => .int
  | 7 => .array .int
  | 8 => .array .int
  | 9 => .array .int
  | 10 => .int
  | 11 => .int
  | 12 => .int
  | 13 => .array .int
  | 14 => .array .int
  | 15 => .array .int
  | 16 => .int
  | 17 => .array .int
  | 18 => .array .int
  | 19 => .array .int
  | 20 => .array .int
  | 21 => .array .int
  | 22 => .array .int
  | 23 => .array .int
  | 24 => .array .int
  | 25 => .array .int
  | 26 => .int
  | 27 => .array .int
  | 28 => .array .int
  | 29 => .array .int
  | _ => .array .int
abbrev wsX10 : List Cond := u_ws RX1 TX1 31
set_option maxRecDepth 100000 in
theorem nmX1 : ∀ a, a < 31 → ∀ b, b < 31 → a ≠ b → (TX1 a).2.1 ≠ (TX1 b).2.1 := by decide +kernel
set_option maxRecDepth 100000 in
theorem tyX1_ok : ∀ k, k < 31 → parseFieldDescriptor (TX1 k).2.2.1 = some (tyX1 k) := by decide +kernel
abbrev cX1_init : ByteArray := prog_16_method_1_code
def yX1_init : MethodName := ⟨RX1, "<init>", "()V"⟩
def dkwX1_init_8 : List UInt8 := [181, 0, 73, 177]
abbrev dktX1_init_8 : List UInt8 := dkwX1_init_8 ++ []
def dkwX1_init_7 : List UInt8 := [188, 10, 181, 0, 64, 42, 8, 188, 10, 181, 0, 67, 42, 8, 188, 10, 181, 0, 70, 42, 16, 6, 188, 10]
abbrev dktX1_init_7 : List UInt8 := dkwX1_init_7 ++ dktX1_init_8
def dkwX1_init_6 : List UInt8 := [188, 10, 181, 0, 55, 42, 16, 10, 188, 10, 181, 0, 58, 42, 16, 6, 188, 10, 181, 0, 61, 42, 16, 8]
abbrev dktX1_init_6 : List UInt8 := dkwX1_init_6 ++ dktX1_init_7
def dkwX1_init_5 : List UInt8 := [181, 0, 46, 42, 16, 10, 188, 10, 181, 0, 49, 42, 16, 10, 188, 10, 181, 0, 52, 42, 17, 78, 42]
abbrev dktX1_init_5 : List UInt8 := dkwX1_init_5 ++ dktX1_init_6
def dkwX1_init_4 : List UInt8 := [181, 0, 37, 42, 16, 10, 188, 10, 181, 0, 40, 42, 16, 10, 188, 10, 181, 0, 43, 42, 16, 10, 188, 10]
abbrev dktX1_init_4 : List UInt8 := dkwX1_init_4 ++ dktX1_init_5
def dkwX1_init_3 : List UInt8 := [181, 0, 28, 42, 6, 188, 10, 181, 0, 31, 42, 6, 188, 10, 181, 0, 34, 42, 16, 10, 188, 10]
abbrev dktX1_init_3 : List UInt8 := dkwX1_init_3 ++ dktX1_init_4
def dkwX1_init_2 : List UInt8 := [6, 188, 10, 181, 0, 19, 42, 6, 188, 10, 181, 0, 22, 42, 6, 188, 10, 181, 0, 25, 42, 6, 188, 10]
abbrev dktX1_init_2 : List UInt8 := dkwX1_init_2 ++ dktX1_init_3
def dkwX1_init_1 : List UInt8 := [6, 16, 247, 79, 181, 0, 9, 42, 7, 188, 10, 181, 0, 13, 42, 17, 0, 240, 188, 10, 181, 0, 16, 42]
abbrev dktX1_init_1 : List UInt8 := dkwX1_init_1 ++ dktX1_init_2
def dkwX1_init_0 : List UInt8 := [42, 183, 0, 1, 42, 7, 188, 10, 89, 3, 16, 247, 79, 89, 4, 16, 247, 79, 89, 5, 16, 247, 79, 89]
abbrev dktX1_init_0 : List UInt8 := dkwX1_init_0 ++ dktX1_init_1
theorem dksX1_init_0 : cX1_init.data.toList.drop 0 = dktX1_init_0 := by decide +kernel
theorem dksX1_init_1 : cX1_init.data.toList.drop 24 = dktX1_init_1 := dk_seg dksX1_init_0 24 rfl rfl
theorem dksX1_init_2 : cX1_init.data.toList.drop 48 = dktX1_init_2 := dk_seg dksX1_init_1 24 rfl rfl
theorem dksX1_init_3 : cX1_init.data.toList.drop 72 = dktX1_init_3 := dk_seg dksX1_init_2 24 rfl rfl
theorem dksX1_init_4 : cX1_init.data.toList.drop 94 = dktX1_init_4 := dk_seg dksX1_init_3 22 rfl rfl
theorem dksX1_init_5 : cX1_init.data.toList.drop 118 = dktX1_init_5 := dk_seg dksX1_init_4 24 rfl rfl
theorem dksX1_init_6 : cX1_init.data.toList.drop 141 = dktX1_init_6 := dk_seg dksX1_init_5 23 rfl rfl
theorem dksX1_init_7 : cX1_init.data.toList.drop 165 = dktX1_init_7 := dk_seg dksX1_init_6 24 rfl rfl
theorem dksX1_init_8 : cX1_init.data.toList.drop 189 = dktX1_init_8 := dk_seg dksX1_init_7 24 rfl rfl
theorem dX1_init_0 : decode cX1_init 0 = .ok (.aload_n 0, 1) := dk_42 (dk_at dksX1_init_0 0 rfl rfl)
theorem dX1_init_1 : decode cX1_init 1 = .ok (.invokespecial 1, 3) := dk_183 0 1 (dk_at dksX1_init_0 1 rfl rfl)
theorem dX1_init_4 : decode cX1_init 4 = .ok (.aload_n 0, 1) := dk_42 (dk_at dksX1_init_0 4 rfl rfl)
theorem dX1_init_5 : decode cX1_init 5 = .ok (.iconst 4, 1) := dk_7 (dk_at dksX1_init_0 5 rfl rfl)
theorem dX1_init_6 : decode cX1_init 6 = .ok (.newarray .int, 2) := dk_188_10 (dk_at dksX1_init_0 6 rfl rfl)
theorem dX1_init_8 : decode cX1_init 8 = .ok (.dup, 1) := dk_89 (dk_at dksX1_init_0 8 rfl rfl)
theorem dX1_init_9 : decode cX1_init 9 = .ok (.iconst 0, 1) := dk_3 (dk_at dksX1_init_0 9 rfl rfl)
theorem dX1_init_10 : decode cX1_init 10 = .ok (.bipush (-9), 2) := dk_16 247 (dk_at dksX1_init_0 10 rfl rfl)
theorem dX1_init_12 : decode cX1_init 12 = .ok (.iastore, 1) := dk_79 (dk_at dksX1_init_0 12 rfl rfl)
theorem dX1_init_13 : decode cX1_init 13 = .ok (.dup, 1) := dk_89 (dk_at dksX1_init_0 13 rfl rfl)
theorem dX1_init_14 : decode cX1_init 14 = .ok (.iconst 1, 1) := dk_4 (dk_at dksX1_init_0 14 rfl rfl)
theorem dX1_init_15 : decode cX1_init 15 = .ok (.bipush (-9), 2) := dk_16 247 (dk_at dksX1_init_0 15 rfl rfl)
theorem dX1_init_17 : decode cX1_init 17 = .ok (.iastore, 1) := dk_79 (dk_at dksX1_init_0 17 rfl rfl)
theorem dX1_init_18 : decode cX1_init 18 = .ok (.dup, 1) := dk_89 (dk_at dksX1_init_0 18 rfl rfl)
theorem dX1_init_19 : decode cX1_init 19 = .ok (.iconst 2, 1) := dk_5 (dk_at dksX1_init_0 19 rfl rfl)
theorem dX1_init_20 : decode cX1_init 20 = .ok (.bipush (-9), 2) := dk_16 247 (dk_at dksX1_init_0 20 rfl rfl)
theorem dX1_init_22 : decode cX1_init 22 = .ok (.iastore, 1) := dk_79 (dk_at dksX1_init_0 22 rfl rfl)
theorem dX1_init_23 : decode cX1_init 23 = .ok (.dup, 1) := dk_89 (dk_at dksX1_init_0 23 rfl rfl)
theorem dX1_init_24 : decode cX1_init 24 = .ok (.iconst 3, 1) := dk_6 (dk_at dksX1_init_1 0 rfl rfl)
theorem dX1_init_25 : decode cX1_init 25 = .ok (.bipush (-9), 2) := dk_16 247 (dk_at dksX1_init_1 1 rfl rfl)
theorem dX1_init_27 : decode cX1_init 27 = .ok (.iastore, 1) := dk_79 (dk_at dksX1_init_1 3 rfl rfl)
theorem dX1_init_28 : decode cX1_init 28 = .ok (.putfield 9, 3) := dk_181 0 9 (dk_at dksX1_init_1 4 rfl rfl)
theorem dX1_init_31 : decode cX1_init 31 = .ok (.aload_n 0, 1) := dk_42 (dk_at dksX1_init_1 7 rfl rfl)
theorem dX1_init_32 : decode cX1_init 32 = .ok (.iconst 4, 1) := dk_7 (dk_at dksX1_init_1 8 rfl rfl)
theorem dX1_init_33 : decode cX1_init 33 = .ok (.newarray .int, 2) := dk_188_10 (dk_at dksX1_init_1 9 rfl rfl)
theorem dX1_init_35 : decode cX1_init 35 = .ok (.putfield 13, 3) := dk_181 0 13 (dk_at dksX1_init_1 11 rfl rfl)
theorem dX1_init_38 : decode cX1_init 38 = .ok (.aload_n 0, 1) := dk_42 (dk_at dksX1_init_1 14 rfl rfl)
theorem dX1_init_39 : decode cX1_init 39 = .ok (.sipush 240, 3) := dk_17 0 240 (dk_at dksX1_init_1 15 rfl rfl)
theorem dX1_init_42 : decode cX1_init 42 = .ok (.newarray .int, 2) := dk_188_10 (dk_at dksX1_init_1 18 rfl rfl)
theorem dX1_init_44 : decode cX1_init 44 = .ok (.putfield 16, 3) := dk_181 0 16 (dk_at dksX1_init_1 20 rfl rfl)
theorem dX1_init_47 : decode cX1_init 47 = .ok (.aload_n 0, 1) := dk_42 (dk_at dksX1_init_1 23 rfl rfl)
theorem dX1_init_48 : decode cX1_init 48 = .ok (.iconst 3, 1) := dk_6 (dk_at dksX1_init_2 0 rfl rfl)
theorem dX1_init_49 : decode cX1_init 49 = .ok (.newarray .int, 2) := dk_188_10 (dk_at dksX1_init_2 1 rfl rfl)
theorem dX1_init_51 : decode cX1_init 51 = .ok (.putfield 19, 3) := dk_181 0 19 (dk_at dksX1_init_2 3 rfl rfl)
theorem dX1_init_54 : decode cX1_init 54 = .ok (.aload_n 0, 1) := dk_42 (dk_at dksX1_init_2 6 rfl rfl)
theorem dX1_init_55 : decode cX1_init 55 = .ok (.iconst 3, 1) := dk_6 (dk_at dksX1_init_2 7 rfl rfl)
theorem dX1_init_56 : decode cX1_init 56 = .ok (.newarray .int, 2) := dk_188_10 (dk_at dksX1_init_2 8 rfl rfl)
theorem dX1_init_58 : decode cX1_init 58 = .ok (.putfield 22, 3) := dk_181 0 22 (dk_at dksX1_init_2 10 rfl rfl)
theorem dX1_init_61 : decode cX1_init 61 = .ok (.aload_n 0, 1) := dk_42 (dk_at dksX1_init_2 13 rfl rfl)
theorem dX1_init_62 : decode cX1_init 62 = .ok (.iconst 3, 1) := dk_6 (dk_at dksX1_init_2 14 rfl rfl)
theorem dX1_init_63 : decode cX1_init 63 = .ok (.newarray .int, 2) := dk_188_10 (dk_at dksX1_init_2 15 rfl rfl)
theorem dX1_init_65 : decode cX1_init 65 = .ok (.putfield 25, 3) := dk_181 0 25 (dk_at dksX1_init_2 17 rfl rfl)
theorem dX1_init_68 : decode cX1_init 68 = .ok (.aload_n 0, 1) := dk_42 (dk_at dksX1_init_2 20 rfl rfl)
theorem dX1_init_69 : decode cX1_init 69 = .ok (.iconst 3, 1) := dk_6 (dk_at dksX1_init_2 21 rfl rfl)
theorem dX1_init_70 : decode cX1_init 70 = .ok (.newarray .int, 2) := dk_188_10 (dk_at dksX1_init_2 22 rfl rfl)
theorem dX1_init_72 : decode cX1_init 72 = .ok (.putfield 28, 3) := dk_181 0 28 (dk_at dksX1_init_3 0 rfl rfl)
theorem dX1_init_75 : decode cX1_init 75 = .ok (.aload_n 0, 1) := dk_42 (dk_at dksX1_init_3 3 rfl rfl)
theorem dX1_init_76 : decode cX1_init 76 = .ok (.iconst 3, 1) := dk_6 (dk_at dksX1_init_3 4 rfl rfl)
theorem dX1_init_77 : decode cX1_init 77 = .ok (.newarray .int, 2) := dk_188_10 (dk_at dksX1_init_3 5 rfl rfl)
theorem dX1_init_79 : decode cX1_init 79 = .ok (.putfield 31, 3) := dk_181 0 31 (dk_at dksX1_init_3 7 rfl rfl)
theorem dX1_init_82 : decode cX1_init 82 = .ok (.aload_n 0, 1) := dk_42 (dk_at dksX1_init_3 10 rfl rfl)
theorem dX1_init_83 : decode cX1_init 83 = .ok (.iconst 3, 1) := dk_6 (dk_at dksX1_init_3 11 rfl rfl)
theorem dX1_init_84 : decode cX1_init 84 = .ok (.newarray .int, 2) := dk_188_10 (dk_at dksX1_init_3 12 rfl rfl)
theorem dX1_init_86 : decode cX1_init 86 = .ok (.putfield 34, 3) := dk_181 0 34 (dk_at dksX1_init_3 14 rfl rfl)
theorem dX1_init_89 : decode cX1_init 89 = .ok (.aload_n 0, 1) := dk_42 (dk_at dksX1_init_3 17 rfl rfl)
theorem dX1_init_90 : decode cX1_init 90 = .ok (.bipush 10, 2) := dk_16 10 (dk_at dksX1_init_3 18 rfl rfl)
theorem dX1_init_92 : decode cX1_init 92 = .ok (.newarray .int, 2) := dk_188_10 (dk_at dksX1_init_3 20 rfl rfl)
theorem dX1_init_94 : decode cX1_init 94 = .ok (.putfield 37, 3) := dk_181 0 37 (dk_at dksX1_init_4 0 rfl rfl)
theorem dX1_init_97 : decode cX1_init 97 = .ok (.aload_n 0, 1) := dk_42 (dk_at dksX1_init_4 3 rfl rfl)
theorem dX1_init_98 : decode cX1_init 98 = .ok (.bipush 10, 2) := dk_16 10 (dk_at dksX1_init_4 4 rfl rfl)
theorem dX1_init_100 : decode cX1_init 100 = .ok (.newarray .int, 2) := dk_188_10 (dk_at dksX1_init_4 6 rfl rfl)
theorem dX1_init_102 : decode cX1_init 102 = .ok (.putfield 40, 3) := dk_181 0 40 (dk_at dksX1_init_4 8 rfl rfl)
theorem dX1_init_105 : decode cX1_init 105 = .ok (.aload_n 0, 1) := dk_42 (dk_at dksX1_init_4 11 rfl rfl)
theorem dX1_init_106 : decode cX1_init 106 = .ok (.bipush 10, 2) := dk_16 10 (dk_at dksX1_init_4 12 rfl rfl)
theorem dX1_init_108 : decode cX1_init 108 = .ok (.newarray .int, 2) := dk_188_10 (dk_at dksX1_init_4 14 rfl rfl)
theorem dX1_init_110 : decode cX1_init 110 = .ok (.putfield 43, 3) := dk_181 0 43 (dk_at dksX1_init_4 16 rfl rfl)
theorem dX1_init_113 : decode cX1_init 113 = .ok (.aload_n 0, 1) := dk_42 (dk_at dksX1_init_4 19 rfl rfl)
theorem dX1_init_114 : decode cX1_init 114 = .ok (.bipush 10, 2) := dk_16 10 (dk_at dksX1_init_4 20 rfl rfl)
theorem dX1_init_116 : decode cX1_init 116 = .ok (.newarray .int, 2) := dk_188_10 (dk_at dksX1_init_4 22 rfl rfl)
theorem dX1_init_118 : decode cX1_init 118 = .ok (.putfield 46, 3) := dk_181 0 46 (dk_at dksX1_init_5 0 rfl rfl)
theorem dX1_init_121 : decode cX1_init 121 = .ok (.aload_n 0, 1) := dk_42 (dk_at dksX1_init_5 3 rfl rfl)
theorem dX1_init_122 : decode cX1_init 122 = .ok (.bipush 10, 2) := dk_16 10 (dk_at dksX1_init_5 4 rfl rfl)
theorem dX1_init_124 : decode cX1_init 124 = .ok (.newarray .int, 2) := dk_188_10 (dk_at dksX1_init_5 6 rfl rfl)
theorem dX1_init_126 : decode cX1_init 126 = .ok (.putfield 49, 3) := dk_181 0 49 (dk_at dksX1_init_5 8 rfl rfl)
theorem dX1_init_129 : decode cX1_init 129 = .ok (.aload_n 0, 1) := dk_42 (dk_at dksX1_init_5 11 rfl rfl)
theorem dX1_init_130 : decode cX1_init 130 = .ok (.bipush 10, 2) := dk_16 10 (dk_at dksX1_init_5 12 rfl rfl)
theorem dX1_init_132 : decode cX1_init 132 = .ok (.newarray .int, 2) := dk_188_10 (dk_at dksX1_init_5 14 rfl rfl)
theorem dX1_init_134 : decode cX1_init 134 = .ok (.putfield 52, 3) := dk_181 0 52 (dk_at dksX1_init_5 16 rfl rfl)
theorem dX1_init_137 : decode cX1_init 137 = .ok (.aload_n 0, 1) := dk_42 (dk_at dksX1_init_5 19 rfl rfl)
theorem dX1_init_138 : decode cX1_init 138 = .ok (.sipush 20010, 3) := dk_17 78 42 (dk_at dksX1_init_5 20 rfl rfl)
theorem dX1_init_141 : decode cX1_init 141 = .ok (.newarray .int, 2) := dk_188_10 (dk_at dksX1_init_6 0 rfl rfl)
theorem dX1_init_143 : decode cX1_init 143 = .ok (.putfield 55, 3) := dk_181 0 55 (dk_at dksX1_init_6 2 rfl rfl)
theorem dX1_init_146 : decode cX1_init 146 = .ok (.aload_n 0, 1) := dk_42 (dk_at dksX1_init_6 5 rfl rfl)
theorem dX1_init_147 : decode cX1_init 147 = .ok (.bipush 10, 2) := dk_16 10 (dk_at dksX1_init_6 6 rfl rfl)
theorem dX1_init_149 : decode cX1_init 149 = .ok (.newarray .int, 2) := dk_188_10 (dk_at dksX1_init_6 8 rfl rfl)
theorem dX1_init_151 : decode cX1_init 151 = .ok (.putfield 58, 3) := dk_181 0 58 (dk_at dksX1_init_6 10 rfl rfl)
theorem dX1_init_154 : decode cX1_init 154 = .ok (.aload_n 0, 1) := dk_42 (dk_at dksX1_init_6 13 rfl rfl)
theorem dX1_init_155 : decode cX1_init 155 = .ok (.bipush 6, 2) := dk_16 6 (dk_at dksX1_init_6 14 rfl rfl)
theorem dX1_init_157 : decode cX1_init 157 = .ok (.newarray .int, 2) := dk_188_10 (dk_at dksX1_init_6 16 rfl rfl)
theorem dX1_init_159 : decode cX1_init 159 = .ok (.putfield 61, 3) := dk_181 0 61 (dk_at dksX1_init_6 18 rfl rfl)
theorem dX1_init_162 : decode cX1_init 162 = .ok (.aload_n 0, 1) := dk_42 (dk_at dksX1_init_6 21 rfl rfl)
theorem dX1_init_163 : decode cX1_init 163 = .ok (.bipush 8, 2) := dk_16 8 (dk_at dksX1_init_6 22 rfl rfl)
theorem dX1_init_165 : decode cX1_init 165 = .ok (.newarray .int, 2) := dk_188_10 (dk_at dksX1_init_7 0 rfl rfl)
theorem dX1_init_167 : decode cX1_init 167 = .ok (.putfield 64, 3) := dk_181 0 64 (dk_at dksX1_init_7 2 rfl rfl)
theorem dX1_init_170 : decode cX1_init 170 = .ok (.aload_n 0, 1) := dk_42 (dk_at dksX1_init_7 5 rfl rfl)
theorem dX1_init_171 : decode cX1_init 171 = .ok (.iconst 5, 1) := dk_8 (dk_at dksX1_init_7 6 rfl rfl)
theorem dX1_init_172 : decode cX1_init 172 = .ok (.newarray .int, 2) := dk_188_10 (dk_at dksX1_init_7 7 rfl rfl)
theorem dX1_init_174 : decode cX1_init 174 = .ok (.putfield 67, 3) := dk_181 0 67 (dk_at dksX1_init_7 9 rfl rfl)
theorem dX1_init_177 : decode cX1_init 177 = .ok (.aload_n 0, 1) := dk_42 (dk_at dksX1_init_7 12 rfl rfl)
theorem dX1_init_178 : decode cX1_init 178 = .ok (.iconst 5, 1) := dk_8 (dk_at dksX1_init_7 13 rfl rfl)
theorem dX1_init_179 : decode cX1_init 179 = .ok (.newarray .int, 2) := dk_188_10 (dk_at dksX1_init_7 14 rfl rfl)
theorem dX1_init_181 : decode cX1_init 181 = .ok (.putfield 70, 3) := dk_181 0 70 (dk_at dksX1_init_7 16 rfl rfl)
theorem dX1_init_184 : decode cX1_init 184 = .ok (.aload_n 0, 1) := dk_42 (dk_at dksX1_init_7 19 rfl rfl)
theorem dX1_init_185 : decode cX1_init 185 = .ok (.bipush 6, 2) := dk_16 6 (dk_at dksX1_init_7 20 rfl rfl)
theorem dX1_init_187 : decode cX1_init 187 = .ok (.newarray .int, 2) := dk_188_10 (dk_at dksX1_init_7 22 rfl rfl)
theorem dX1_init_189 : decode cX1_init 189 = .ok (.putfield 73, 3) := dk_181 0 73 (dk_at dksX1_init_8 0 rfl rfl)
theorem dX1_init_192 : decode cX1_init 192 = .ok (.return_, 1) := dk_177 (dk_at dksX1_init_8 3 rfl rfl)
abbrev cX1_sea : ByteArray := prog_16_method_16_code
def yX1_sea : MethodName := ⟨RX1, "sea", "(IIII)I"⟩
def dkwX1_sea_7 : List UInt8 := [42, 180, 0, 120, 172]
abbrev dktX1_sea_7 : List UInt8 := dkwX1_sea_7 ++ []
def dkwX1_sea_6 : List UInt8 := [180, 0, 25, 21, 7, 42, 180, 0, 34, 21, 7, 46, 79, 132, 7, 1, 167, 255, 202, 42, 3, 181, 0, 123]
abbrev dktX1_sea_6 : List UInt8 := dkwX1_sea_6 ++ dktX1_sea_7
def dkwX1_sea_5 : List UInt8 := [42, 180, 0, 28, 21, 7, 46, 79, 42, 180, 0, 22, 21, 7, 42, 180, 0, 31, 21, 7, 46, 79, 42]
abbrev dktX1_sea_5 : List UInt8 := dkwX1_sea_5 ++ dktX1_sea_6
def dkwX1_sea_4 : List UInt8 := [180, 0, 117, 181, 0, 120, 3, 54, 7, 21, 7, 42, 180, 0, 120, 162, 0, 51, 42, 180, 0, 19, 21, 7]
abbrev dktX1_sea_4 : List UInt8 := dkwX1_sea_4 ++ dktX1_sea_5
def dkwX1_sea_3 : List UInt8 := [154, 0, 14, 16, 156, 42, 180, 0, 89, 21, 6, 100, 100, 172, 42, 42, 180, 0, 114, 181, 0, 86, 42, 42]
abbrev dktX1_sea_3 : List UInt8 := dkwX1_sea_3 ++ dktX1_sea_4
def dkwX1_sea_2 : List UInt8 := [16, 60, 27, 104, 29, 96, 54, 6, 42, 21, 6, 181, 0, 89, 42, 21, 6, 21, 4, 96, 182, 0, 111]
abbrev dktX1_sea_2 : List UInt8 := dkwX1_sea_2 ++ dktX1_sea_3
def dkwX1_sea_1 : List UInt8 := [42, 27, 28, 29, 21, 4, 182, 0, 103, 54, 5, 21, 5, 153, 0, 10, 42, 21, 5, 182, 0, 107, 172]
abbrev dktX1_sea_1 : List UInt8 := dkwX1_sea_1 ++ dktX1_sea_2
def dkwX1_sea_0 : List UInt8 := [42, 3, 181, 0, 76, 27, 184, 0, 96, 154, 0, 5, 2, 172, 28, 184, 0, 100, 154, 0, 6, 16, 254, 172]
abbrev dktX1_sea_0 : List UInt8 := dkwX1_sea_0 ++ dktX1_sea_1
theorem dksX1_sea_0 : cX1_sea.data.toList.drop 0 = dktX1_sea_0 := by decide +kernel
theorem dksX1_sea_1 : cX1_sea.data.toList.drop 24 = dktX1_sea_1 := dk_seg dksX1_sea_0 24 rfl rfl
theorem dksX1_sea_2 : cX1_sea.data.toList.drop 47 = dktX1_sea_2 := dk_seg dksX1_sea_1 23 rfl rfl
theorem dksX1_sea_3 : cX1_sea.data.toList.drop 70 = dktX1_sea_3 := dk_seg dksX1_sea_2 23 rfl rfl
theorem dksX1_sea_4 : cX1_sea.data.toList.drop 94 = dktX1_sea_4 := dk_seg dksX1_sea_3 24 rfl rfl
theorem dksX1_sea_5 : cX1_sea.data.toList.drop 118 = dktX1_sea_5 := dk_seg dksX1_sea_4 24 rfl rfl
theorem dksX1_sea_6 : cX1_sea.data.toList.drop 141 = dktX1_sea_6 := dk_seg dksX1_sea_5 23 rfl rfl
theorem dksX1_sea_7 : cX1_sea.data.toList.drop 165 = dktX1_sea_7 := dk_seg dksX1_sea_6 24 rfl rfl
theorem dX1_sea_0 : decode cX1_sea 0 = .ok (.aload_n 0, 1) := dk_42 (dk_at dksX1_sea_0 0 rfl rfl)
theorem dX1_sea_1 : decode cX1_sea 1 = .ok (.iconst 0, 1) := dk_3 (dk_at dksX1_sea_0 1 rfl rfl)
theorem dX1_sea_2 : decode cX1_sea 2 = .ok (.putfield 76, 3) := dk_181 0 76 (dk_at dksX1_sea_0 2 rfl rfl)
theorem dX1_sea_5 : decode cX1_sea 5 = .ok (.iload_n 1, 1) := dk_27 (dk_at dksX1_sea_0 5 rfl rfl)
theorem dX1_sea_6 : decode cX1_sea 6 = .ok (.invokestatic 96, 3) := dk_184 0 96 (dk_at dksX1_sea_0 6 rfl rfl)
theorem dX1_sea_9 : decode cX1_sea 9 = .ok (.ifCond .ne 5, 3) := dk_154 0 5 (dk_at dksX1_sea_0 9 rfl rfl)
theorem dX1_sea_12 : decode cX1_sea 12 = .ok (.iconst (-1), 1) := dk_2 (dk_at dksX1_sea_0 12 rfl rfl)
theorem dX1_sea_13 : decode cX1_sea 13 = .ok (.ireturn, 1) := dk_172 (dk_at dksX1_sea_0 13 rfl rfl)
theorem dX1_sea_14 : decode cX1_sea 14 = .ok (.iload_n 2, 1) := dk_28 (dk_at dksX1_sea_0 14 rfl rfl)
theorem dX1_sea_15 : decode cX1_sea 15 = .ok (.invokestatic 100, 3) := dk_184 0 100 (dk_at dksX1_sea_0 15 rfl rfl)
theorem dX1_sea_18 : decode cX1_sea 18 = .ok (.ifCond .ne 6, 3) := dk_154 0 6 (dk_at dksX1_sea_0 18 rfl rfl)
theorem dX1_sea_21 : decode cX1_sea 21 = .ok (.bipush (-2), 2) := dk_16 254 (dk_at dksX1_sea_0 21 rfl rfl)
theorem dX1_sea_23 : decode cX1_sea 23 = .ok (.ireturn, 1) := dk_172 (dk_at dksX1_sea_0 23 rfl rfl)
theorem dX1_sea_24 : decode cX1_sea 24 = .ok (.aload_n 0, 1) := dk_42 (dk_at dksX1_sea_1 0 rfl rfl)
theorem dX1_sea_25 : decode cX1_sea 25 = .ok (.iload_n 1, 1) := dk_27 (dk_at dksX1_sea_1 1 rfl rfl)
theorem dX1_sea_26 : decode cX1_sea 26 = .ok (.iload_n 2, 1) := dk_28 (dk_at dksX1_sea_1 2 rfl rfl)
theorem dX1_sea_27 : decode cX1_sea 27 = .ok (.iload_n 3, 1) := dk_29 (dk_at dksX1_sea_1 3 rfl rfl)
theorem dX1_sea_28 : decode cX1_sea 28 = .ok (.iload 4, 2) := dk_21 4 (dk_at dksX1_sea_1 4 rfl rfl)
theorem dX1_sea_30 : decode cX1_sea 30 = .ok (.invokevirtual 103, 3) := dk_182 0 103 (dk_at dksX1_sea_1 6 rfl rfl)
theorem dX1_sea_33 : decode cX1_sea 33 = .ok (.istore 5, 2) := dk_54 5 (dk_at dksX1_sea_1 9 rfl rfl)
theorem dX1_sea_35 : decode cX1_sea 35 = .ok (.iload 5, 2) := dk_21 5 (dk_at dksX1_sea_1 11 rfl rfl)
theorem dX1_sea_37 : decode cX1_sea 37 = .ok (.ifCond .eq 10, 3) := dk_153 0 10 (dk_at dksX1_sea_1 13 rfl rfl)
theorem dX1_sea_40 : decode cX1_sea 40 = .ok (.aload_n 0, 1) := dk_42 (dk_at dksX1_sea_1 16 rfl rfl)
theorem dX1_sea_41 : decode cX1_sea 41 = .ok (.iload 5, 2) := dk_21 5 (dk_at dksX1_sea_1 17 rfl rfl)
theorem dX1_sea_43 : decode cX1_sea 43 = .ok (.invokevirtual 107, 3) := dk_182 0 107 (dk_at dksX1_sea_1 19 rfl rfl)
theorem dX1_sea_46 : decode cX1_sea 46 = .ok (.ireturn, 1) := dk_172 (dk_at dksX1_sea_1 22 rfl rfl)
theorem dX1_sea_47 : decode cX1_sea 47 = .ok (.bipush 60, 2) := dk_16 60 (dk_at dksX1_sea_2 0 rfl rfl)
theorem dX1_sea_49 : decode cX1_sea 49 = .ok (.iload_n 1, 1) := dk_27 (dk_at dksX1_sea_2 2 rfl rfl)
theorem dX1_sea_50 : decode cX1_sea 50 = .ok (.imul, 1) := dk_104 (dk_at dksX1_sea_2 3 rfl rfl)
theorem dX1_sea_51 : decode cX1_sea 51 = .ok (.iload_n 3, 1) := dk_29 (dk_at dksX1_sea_2 4 rfl rfl)
theorem dX1_sea_52 : decode cX1_sea 52 = .ok (.iadd, 1) := dk_96 (dk_at dksX1_sea_2 5 rfl rfl)
theorem dX1_sea_53 : decode cX1_sea 53 = .ok (.istore 6, 2) := dk_54 6 (dk_at dksX1_sea_2 6 rfl rfl)
theorem dX1_sea_55 : decode cX1_sea 55 = .ok (.aload_n 0, 1) := dk_42 (dk_at dksX1_sea_2 8 rfl rfl)
theorem dX1_sea_56 : decode cX1_sea 56 = .ok (.iload 6, 2) := dk_21 6 (dk_at dksX1_sea_2 9 rfl rfl)
theorem dX1_sea_58 : decode cX1_sea 58 = .ok (.putfield 89, 3) := dk_181 0 89 (dk_at dksX1_sea_2 11 rfl rfl)
theorem dX1_sea_61 : decode cX1_sea 61 = .ok (.aload_n 0, 1) := dk_42 (dk_at dksX1_sea_2 14 rfl rfl)
theorem dX1_sea_62 : decode cX1_sea 62 = .ok (.iload 6, 2) := dk_21 6 (dk_at dksX1_sea_2 15 rfl rfl)
theorem dX1_sea_64 : decode cX1_sea 64 = .ok (.iload 4, 2) := dk_21 4 (dk_at dksX1_sea_2 17 rfl rfl)
theorem dX1_sea_66 : decode cX1_sea 66 = .ok (.iadd, 1) := dk_96 (dk_at dksX1_sea_2 19 rfl rfl)
theorem dX1_sea_67 : decode cX1_sea 67 = .ok (.invokevirtual 111, 3) := dk_182 0 111 (dk_at dksX1_sea_2 20 rfl rfl)
theorem dX1_sea_70 : decode cX1_sea 70 = .ok (.ifCond .ne 14, 3) := dk_154 0 14 (dk_at dksX1_sea_3 0 rfl rfl)
theorem dX1_sea_73 : decode cX1_sea 73 = .ok (.bipush (-100), 2) := dk_16 156 (dk_at dksX1_sea_3 3 rfl rfl)
theorem dX1_sea_75 : decode cX1_sea 75 = .ok (.aload_n 0, 1) := dk_42 (dk_at dksX1_sea_3 5 rfl rfl)
theorem dX1_sea_76 : decode cX1_sea 76 = .ok (.getfield 89, 3) := dk_180 0 89 (dk_at dksX1_sea_3 6 rfl rfl)
theorem dX1_sea_79 : decode cX1_sea 79 = .ok (.iload 6, 2) := dk_21 6 (dk_at dksX1_sea_3 9 rfl rfl)
theorem dX1_sea_81 : decode cX1_sea 81 = .ok (.isub, 1) := dk_100 (dk_at dksX1_sea_3 11 rfl rfl)
theorem dX1_sea_82 : decode cX1_sea 82 = .ok (.isub, 1) := dk_100 (dk_at dksX1_sea_3 12 rfl rfl)
theorem dX1_sea_83 : decode cX1_sea 83 = .ok (.ireturn, 1) := dk_172 (dk_at dksX1_sea_3 13 rfl rfl)
theorem dX1_sea_84 : decode cX1_sea 84 = .ok (.aload_n 0, 1) := dk_42 (dk_at dksX1_sea_3 14 rfl rfl)
theorem dX1_sea_85 : decode cX1_sea 85 = .ok (.aload_n 0, 1) := dk_42 (dk_at dksX1_sea_3 15 rfl rfl)
theorem dX1_sea_86 : decode cX1_sea 86 = .ok (.getfield 114, 3) := dk_180 0 114 (dk_at dksX1_sea_3 16 rfl rfl)
theorem dX1_sea_89 : decode cX1_sea 89 = .ok (.putfield 86, 3) := dk_181 0 86 (dk_at dksX1_sea_3 19 rfl rfl)
theorem dX1_sea_92 : decode cX1_sea 92 = .ok (.aload_n 0, 1) := dk_42 (dk_at dksX1_sea_3 22 rfl rfl)
theorem dX1_sea_93 : decode cX1_sea 93 = .ok (.aload_n 0, 1) := dk_42 (dk_at dksX1_sea_3 23 rfl rfl)
theorem dX1_sea_94 : decode cX1_sea 94 = .ok (.getfield 117, 3) := dk_180 0 117 (dk_at dksX1_sea_4 0 rfl rfl)
theorem dX1_sea_97 : decode cX1_sea 97 = .ok (.putfield 120, 3) := dk_181 0 120 (dk_at dksX1_sea_4 3 rfl rfl)
theorem dX1_sea_100 : decode cX1_sea 100 = .ok (.iconst 0, 1) := dk_3 (dk_at dksX1_sea_4 6 rfl rfl)
theorem dX1_sea_101 : decode cX1_sea 101 = .ok (.istore 7, 2) := dk_54 7 (dk_at dksX1_sea_4 7 rfl rfl)
theorem dX1_sea_103 : decode cX1_sea 103 = .ok (.iload 7, 2) := dk_21 7 (dk_at dksX1_sea_4 9 rfl rfl)
theorem dX1_sea_105 : decode cX1_sea 105 = .ok (.aload_n 0, 1) := dk_42 (dk_at dksX1_sea_4 11 rfl rfl)
theorem dX1_sea_106 : decode cX1_sea 106 = .ok (.getfield 120, 3) := dk_180 0 120 (dk_at dksX1_sea_4 12 rfl rfl)
theorem dX1_sea_109 : decode cX1_sea 109 = .ok (.if_icmp .ge 51, 3) := dk_162 0 51 (dk_at dksX1_sea_4 15 rfl rfl)
theorem dX1_sea_112 : decode cX1_sea 112 = .ok (.aload_n 0, 1) := dk_42 (dk_at dksX1_sea_4 18 rfl rfl)
theorem dX1_sea_113 : decode cX1_sea 113 = .ok (.getfield 19, 3) := dk_180 0 19 (dk_at dksX1_sea_4 19 rfl rfl)
theorem dX1_sea_116 : decode cX1_sea 116 = .ok (.iload 7, 2) := dk_21 7 (dk_at dksX1_sea_4 22 rfl rfl)
theorem dX1_sea_118 : decode cX1_sea 118 = .ok (.aload_n 0, 1) := dk_42 (dk_at dksX1_sea_5 0 rfl rfl)
theorem dX1_sea_119 : decode cX1_sea 119 = .ok (.getfield 28, 3) := dk_180 0 28 (dk_at dksX1_sea_5 1 rfl rfl)
theorem dX1_sea_122 : decode cX1_sea 122 = .ok (.iload 7, 2) := dk_21 7 (dk_at dksX1_sea_5 4 rfl rfl)
theorem dX1_sea_124 : decode cX1_sea 124 = .ok (.iaload, 1) := dk_46 (dk_at dksX1_sea_5 6 rfl rfl)
theorem dX1_sea_125 : decode cX1_sea 125 = .ok (.iastore, 1) := dk_79 (dk_at dksX1_sea_5 7 rfl rfl)
theorem dX1_sea_126 : decode cX1_sea 126 = .ok (.aload_n 0, 1) := dk_42 (dk_at dksX1_sea_5 8 rfl rfl)
theorem dX1_sea_127 : decode cX1_sea 127 = .ok (.getfield 22, 3) := dk_180 0 22 (dk_at dksX1_sea_5 9 rfl rfl)
theorem dX1_sea_130 : decode cX1_sea 130 = .ok (.iload 7, 2) := dk_21 7 (dk_at dksX1_sea_5 12 rfl rfl)
theorem dX1_sea_132 : decode cX1_sea 132 = .ok (.aload_n 0, 1) := dk_42 (dk_at dksX1_sea_5 14 rfl rfl)
theorem dX1_sea_133 : decode cX1_sea 133 = .ok (.getfield 31, 3) := dk_180 0 31 (dk_at dksX1_sea_5 15 rfl rfl)
theorem dX1_sea_136 : decode cX1_sea 136 = .ok (.iload 7, 2) := dk_21 7 (dk_at dksX1_sea_5 18 rfl rfl)
theorem dX1_sea_138 : decode cX1_sea 138 = .ok (.iaload, 1) := dk_46 (dk_at dksX1_sea_5 20 rfl rfl)
theorem dX1_sea_139 : decode cX1_sea 139 = .ok (.iastore, 1) := dk_79 (dk_at dksX1_sea_5 21 rfl rfl)
theorem dX1_sea_140 : decode cX1_sea 140 = .ok (.aload_n 0, 1) := dk_42 (dk_at dksX1_sea_5 22 rfl rfl)
theorem dX1_sea_141 : decode cX1_sea 141 = .ok (.getfield 25, 3) := dk_180 0 25 (dk_at dksX1_sea_6 0 rfl rfl)
theorem dX1_sea_144 : decode cX1_sea 144 = .ok (.iload 7, 2) := dk_21 7 (dk_at dksX1_sea_6 3 rfl rfl)
theorem dX1_sea_146 : decode cX1_sea 146 = .ok (.aload_n 0, 1) := dk_42 (dk_at dksX1_sea_6 5 rfl rfl)
theorem dX1_sea_147 : decode cX1_sea 147 = .ok (.getfield 34, 3) := dk_180 0 34 (dk_at dksX1_sea_6 6 rfl rfl)
theorem dX1_sea_150 : decode cX1_sea 150 = .ok (.iload 7, 2) := dk_21 7 (dk_at dksX1_sea_6 9 rfl rfl)
theorem dX1_sea_152 : decode cX1_sea 152 = .ok (.iaload, 1) := dk_46 (dk_at dksX1_sea_6 11 rfl rfl)
theorem dX1_sea_153 : decode cX1_sea 153 = .ok (.iastore, 1) := dk_79 (dk_at dksX1_sea_6 12 rfl rfl)
theorem dX1_sea_154 : decode cX1_sea 154 = .ok (.iinc 7 1, 3) := dk_132 7 1 (dk_at dksX1_sea_6 13 rfl rfl)
theorem dX1_sea_157 : decode cX1_sea 157 = .ok (.goto (-54), 3) := dk_167 255 202 (dk_at dksX1_sea_6 16 rfl rfl)
theorem dX1_sea_160 : decode cX1_sea 160 = .ok (.aload_n 0, 1) := dk_42 (dk_at dksX1_sea_6 19 rfl rfl)
theorem dX1_sea_161 : decode cX1_sea 161 = .ok (.iconst 0, 1) := dk_3 (dk_at dksX1_sea_6 20 rfl rfl)
theorem dX1_sea_162 : decode cX1_sea 162 = .ok (.putfield 123, 3) := dk_181 0 123 (dk_at dksX1_sea_6 21 rfl rfl)
theorem dX1_sea_165 : decode cX1_sea 165 = .ok (.aload_n 0, 1) := dk_42 (dk_at dksX1_sea_7 0 rfl rfl)
theorem dX1_sea_166 : decode cX1_sea 166 = .ok (.getfield 120, 3) := dk_180 0 120 (dk_at dksX1_sea_7 1 rfl rfl)
theorem dX1_sea_169 : decode cX1_sea 169 = .ok (.ireturn, 1) := dk_172 (dk_at dksX1_sea_7 4 rfl rfl)
abbrev cX1_isSheet : ByteArray := prog_16_method_7_code
def yX1_isSheet : MethodName := ⟨RX1, "isSheet", "(I)Z"⟩
def dkwX1_isSheet_0 : List UInt8 := [26, 3, 6, 184, 0, 82, 172]
abbrev dktX1_isSheet_0 : List UInt8 := dkwX1_isSheet_0 ++ []
theorem dksX1_isSheet_0 : cX1_isSheet.data.toList.drop 0 = dktX1_isSheet_0 := by decide +kernel
theorem dX1_isSheet_0 : decode cX1_isSheet 0 = .ok (.iload_n 0, 1) := dk_26 (dk_at dksX1_isSheet_0 0 rfl rfl)
theorem dX1_isSheet_1 : decode cX1_isSheet 1 = .ok (.iconst 0, 1) := dk_3 (dk_at dksX1_isSheet_0 1 rfl rfl)
theorem dX1_isSheet_2 : decode cX1_isSheet 2 = .ok (.iconst 3, 1) := dk_6 (dk_at dksX1_isSheet_0 2 rfl rfl)
theorem dX1_isSheet_3 : decode cX1_isSheet 3 = .ok (.invokestatic 82, 3) := dk_184 0 82 (dk_at dksX1_isSheet_0 3 rfl rfl)
theorem dX1_isSheet_6 : decode cX1_isSheet 6 = .ok (.ireturn, 1) := dk_172 (dk_at dksX1_isSheet_0 6 rfl rfl)
abbrev cX1_within : ByteArray := prog_16_method_5_code
def yX1_within : MethodName := ⟨RX1, "within", "(III)Z"⟩
def dkwX1_within_0 : List UInt8 := [26, 27, 161, 0, 12, 26, 28, 163, 0, 7, 4, 167, 0, 4, 3, 172]
abbrev dktX1_within_0 : List UInt8 := dkwX1_within_0 ++ []
theorem dksX1_within_0 : cX1_within.data.toList.drop 0 = dktX1_within_0 := by decide +kernel
theorem dX1_within_0 : decode cX1_within 0 = .ok (.iload_n 0, 1) := dk_26 (dk_at dksX1_within_0 0 rfl rfl)
theorem dX1_within_1 : decode cX1_within 1 = .ok (.iload_n 1, 1) := dk_27 (dk_at dksX1_within_0 1 rfl rfl)
theorem dX1_within_2 : decode cX1_within 2 = .ok (.if_icmp .lt 12, 3) := dk_161 0 12 (dk_at dksX1_within_0 2 rfl rfl)
theorem dX1_within_5 : decode cX1_within 5 = .ok (.iload_n 0, 1) := dk_26 (dk_at dksX1_within_0 5 rfl rfl)
theorem dX1_within_6 : decode cX1_within 6 = .ok (.iload_n 2, 1) := dk_28 (dk_at dksX1_within_0 6 rfl rfl)
theorem dX1_within_7 : decode cX1_within 7 = .ok (.if_icmp .gt 7, 3) := dk_163 0 7 (dk_at dksX1_within_0 7 rfl rfl)
theorem dX1_within_10 : decode cX1_within 10 = .ok (.iconst 1, 1) := dk_4 (dk_at dksX1_within_0 10 rfl rfl)
theorem dX1_within_11 : decode cX1_within 11 = .ok (.goto 4, 3) := dk_167 0 4 (dk_at dksX1_within_0 11 rfl rfl)
theorem dX1_within_14 : decode cX1_within 14 = .ok (.iconst 0, 1) := dk_3 (dk_at dksX1_within_0 14 rfl rfl)
theorem dX1_within_15 : decode cX1_within 15 = .ok (.ireturn, 1) := dk_172 (dk_at dksX1_within_0 15 rfl rfl)
abbrev cX1_isSort : ByteArray := prog_16_method_8_code
def yX1_isSort : MethodName := ⟨RX1, "isSort", "(I)Z"⟩
def dkwX1_isSort_0 : List UInt8 := [26, 3, 5, 184, 0, 82, 172]
abbrev dktX1_isSort_0 : List UInt8 := dkwX1_isSort_0 ++ []
theorem dksX1_isSort_0 : cX1_isSort.data.toList.drop 0 = dktX1_isSort_0 := by decide +kernel
theorem dX1_isSort_0 : decode cX1_isSort 0 = .ok (.iload_n 0, 1) := dk_26 (dk_at dksX1_isSort_0 0 rfl rfl)
theorem dX1_isSort_1 : decode cX1_isSort 1 = .ok (.iconst 0, 1) := dk_3 (dk_at dksX1_isSort_0 1 rfl rfl)
theorem dX1_isSort_2 : decode cX1_isSort 2 = .ok (.iconst 2, 1) := dk_5 (dk_at dksX1_isSort_0 2 rfl rfl)
theorem dX1_isSort_3 : decode cX1_isSort 3 = .ok (.invokestatic 82, 3) := dk_184 0 82 (dk_at dksX1_isSort_0 3 rfl rfl)
theorem dX1_isSort_6 : decode cX1_isSort 6 = .ok (.ireturn, 1) := dk_172 (dk_at dksX1_isSort_0 6 rfl rfl)
abbrev cX1_against : ByteArray := prog_16_method_9_code
def yX1_against : MethodName := ⟨RX1, "against", "(IIII)I"⟩
def dkwX1_against_3 : List UInt8 := [167, 0, 4, 3, 172]
abbrev dktX1_against_3 : List UInt8 := dkwX1_against_3 ++ []
def dkwX1_against_2 : List UInt8 := [42, 180, 0, 13, 27, 46, 163, 0, 16, 21, 4, 42, 180, 0, 13, 27, 46, 29, 100, 164, 0, 7, 6]
abbrev dktX1_against_2 : List UInt8 := dkwX1_against_2 ++ dktX1_against_3
def dkwX1_against_1 : List UInt8 := [180, 0, 9, 27, 46, 16, 247, 160, 0, 5, 4, 172, 21, 4, 156, 0, 5, 7, 172, 29, 155, 0, 26, 29]
abbrev dktX1_against_1 : List UInt8 := dkwX1_against_1 ++ dktX1_against_2
def dkwX1_against_0 : List UInt8 := [42, 180, 0, 9, 27, 46, 16, 247, 159, 0, 15, 42, 180, 0, 9, 27, 46, 28, 159, 0, 5, 5, 172, 42]
abbrev dktX1_against_0 : List UInt8 := dkwX1_against_0 ++ dktX1_against_1
theorem dksX1_against_0 : cX1_against.data.toList.drop 0 = dktX1_against_0 := by decide +kernel
theorem dksX1_against_1 : cX1_against.data.toList.drop 24 = dktX1_against_1 := dk_seg dksX1_against_0 24 rfl rfl
theorem dksX1_against_2 : cX1_against.data.toList.drop 48 = dktX1_against_2 := dk_seg dksX1_against_1 24 rfl rfl
theorem dksX1_against_3 : cX1_against.data.toList.drop 71 = dktX1_against_3 := dk_seg dksX1_against_2 23 rfl rfl
theorem dX1_against_0 : decode cX1_against 0 = .ok (.aload_n 0, 1) := dk_42 (dk_at dksX1_against_0 0 rfl rfl)
theorem dX1_against_1 : decode cX1_against 1 = .ok (.getfield 9, 3) := dk_180 0 9 (dk_at dksX1_against_0 1 rfl rfl)
theorem dX1_against_4 : decode cX1_against 4 = .ok (.iload_n 1, 1) := dk_27 (dk_at dksX1_against_0 4 rfl rfl)
theorem dX1_against_5 : decode cX1_against 5 = .ok (.iaload, 1) := dk_46 (dk_at dksX1_against_0 5 rfl rfl)
theorem dX1_against_6 : decode cX1_against 6 = .ok (.bipush (-9), 2) := dk_16 247 (dk_at dksX1_against_0 6 rfl rfl)
theorem dX1_against_8 : decode cX1_against 8 = .ok (.if_icmp .eq 15, 3) := dk_159 0 15 (dk_at dksX1_against_0 8 rfl rfl)
theorem dX1_against_11 : decode cX1_against 11 = .ok (.aload_n 0, 1) := dk_42 (dk_at dksX1_against_0 11 rfl rfl)
theorem dX1_against_12 : decode cX1_against 12 = .ok (.getfield 9, 3) := dk_180 0 9 (dk_at dksX1_against_0 12 rfl rfl)
theorem dX1_against_15 : decode cX1_against 15 = .ok (.iload_n 1, 1) := dk_27 (dk_at dksX1_against_0 15 rfl rfl)
theorem dX1_against_16 : decode cX1_against 16 = .ok (.iaload, 1) := dk_46 (dk_at dksX1_against_0 16 rfl rfl)
theorem dX1_against_17 : decode cX1_against 17 = .ok (.iload_n 2, 1) := dk_28 (dk_at dksX1_against_0 17 rfl rfl)
theorem dX1_against_18 : decode cX1_against 18 = .ok (.if_icmp .eq 5, 3) := dk_159 0 5 (dk_at dksX1_against_0 18 rfl rfl)
theorem dX1_against_21 : decode cX1_against 21 = .ok (.iconst 2, 1) := dk_5 (dk_at dksX1_against_0 21 rfl rfl)
theorem dX1_against_22 : decode cX1_against 22 = .ok (.ireturn, 1) := dk_172 (dk_at dksX1_against_0 22 rfl rfl)
theorem dX1_against_23 : decode cX1_against 23 = .ok (.aload_n 0, 1) := dk_42 (dk_at dksX1_against_0 23 rfl rfl)
theorem dX1_against_24 : decode cX1_against 24 = .ok (.getfield 9, 3) := dk_180 0 9 (dk_at dksX1_against_1 0 rfl rfl)
theorem dX1_against_27 : decode cX1_against 27 = .ok (.iload_n 1, 1) := dk_27 (dk_at dksX1_against_1 3 rfl rfl)
theorem dX1_against_28 : decode cX1_against 28 = .ok (.iaload, 1) := dk_46 (dk_at dksX1_against_1 4 rfl rfl)
theorem dX1_against_29 : decode cX1_against 29 = .ok (.bipush (-9), 2) := dk_16 247 (dk_at dksX1_against_1 5 rfl rfl)
theorem dX1_against_31 : decode cX1_against 31 = .ok (.if_icmp .ne 5, 3) := dk_160 0 5 (dk_at dksX1_against_1 7 rfl rfl)
theorem dX1_against_34 : decode cX1_against 34 = .ok (.iconst 1, 1) := dk_4 (dk_at dksX1_against_1 10 rfl rfl)
theorem dX1_against_35 : decode cX1_against 35 = .ok (.ireturn, 1) := dk_172 (dk_at dksX1_against_1 11 rfl rfl)
theorem dX1_against_36 : decode cX1_against 36 = .ok (.iload 4, 2) := dk_21 4 (dk_at dksX1_against_1 12 rfl rfl)
theorem dX1_against_38 : decode cX1_against 38 = .ok (.ifCond .ge 5, 3) := dk_156 0 5 (dk_at dksX1_against_1 14 rfl rfl)
theorem dX1_against_41 : decode cX1_against 41 = .ok (.iconst 4, 1) := dk_7 (dk_at dksX1_against_1 17 rfl rfl)
theorem dX1_against_42 : decode cX1_against 42 = .ok (.ireturn, 1) := dk_172 (dk_at dksX1_against_1 18 rfl rfl)
theorem dX1_against_43 : decode cX1_against 43 = .ok (.iload_n 3, 1) := dk_29 (dk_at dksX1_against_1 19 rfl rfl)
theorem dX1_against_44 : decode cX1_against 44 = .ok (.ifCond .lt 26, 3) := dk_155 0 26 (dk_at dksX1_against_1 20 rfl rfl)
theorem dX1_against_47 : decode cX1_against 47 = .ok (.iload_n 3, 1) := dk_29 (dk_at dksX1_against_1 23 rfl rfl)
theorem dX1_against_48 : decode cX1_against 48 = .ok (.aload_n 0, 1) := dk_42 (dk_at dksX1_against_2 0 rfl rfl)
theorem dX1_against_49 : decode cX1_against 49 = .ok (.getfield 13, 3) := dk_180 0 13 (dk_at dksX1_against_2 1 rfl rfl)
theorem dX1_against_52 : decode cX1_against 52 = .ok (.iload_n 1, 1) := dk_27 (dk_at dksX1_against_2 4 rfl rfl)
theorem dX1_against_53 : decode cX1_against 53 = .ok (.iaload, 1) := dk_46 (dk_at dksX1_against_2 5 rfl rfl)
theorem dX1_against_54 : decode cX1_against 54 = .ok (.if_icmp .gt 16, 3) := dk_163 0 16 (dk_at dksX1_against_2 6 rfl rfl)
theorem dX1_against_57 : decode cX1_against 57 = .ok (.iload 4, 2) := dk_21 4 (dk_at dksX1_against_2 9 rfl rfl)
theorem dX1_against_59 : decode cX1_against 59 = .ok (.aload_n 0, 1) := dk_42 (dk_at dksX1_against_2 11 rfl rfl)
theorem dX1_against_60 : decode cX1_against 60 = .ok (.getfield 13, 3) := dk_180 0 13 (dk_at dksX1_against_2 12 rfl rfl)
theorem dX1_against_63 : decode cX1_against 63 = .ok (.iload_n 1, 1) := dk_27 (dk_at dksX1_against_2 15 rfl rfl)
theorem dX1_against_64 : decode cX1_against 64 = .ok (.iaload, 1) := dk_46 (dk_at dksX1_against_2 16 rfl rfl)
theorem dX1_against_65 : decode cX1_against 65 = .ok (.iload_n 3, 1) := dk_29 (dk_at dksX1_against_2 17 rfl rfl)
theorem dX1_against_66 : decode cX1_against 66 = .ok (.isub, 1) := dk_100 (dk_at dksX1_against_2 18 rfl rfl)
theorem dX1_against_67 : decode cX1_against 67 = .ok (.if_icmp .le 7, 3) := dk_164 0 7 (dk_at dksX1_against_2 19 rfl rfl)
theorem dX1_against_70 : decode cX1_against 70 = .ok (.iconst 3, 1) := dk_6 (dk_at dksX1_against_2 22 rfl rfl)
theorem dX1_against_71 : decode cX1_against 71 = .ok (.goto 4, 3) := dk_167 0 4 (dk_at dksX1_against_3 0 rfl rfl)
theorem dX1_against_74 : decode cX1_against 74 = .ok (.iconst 0, 1) := dk_3 (dk_at dksX1_against_3 3 rfl rfl)
theorem dX1_against_75 : decode cX1_against 75 = .ok (.ireturn, 1) := dk_172 (dk_at dksX1_against_3 4 rfl rfl)
abbrev cX1_fails : ByteArray := prog_16_method_3_code
def yX1_fails : MethodName := ⟨RX1, "fails", "(I)I"⟩
def dkwX1_fails_0 : List UInt8 := [42, 27, 181, 0, 76, 16, 246, 27, 100, 172]
abbrev dktX1_fails_0 : List UInt8 := dkwX1_fails_0 ++ []
theorem dksX1_fails_0 : cX1_fails.data.toList.drop 0 = dktX1_fails_0 := by decide +kernel
theorem dX1_fails_0 : decode cX1_fails 0 = .ok (.aload_n 0, 1) := dk_42 (dk_at dksX1_fails_0 0 rfl rfl)
theorem dX1_fails_1 : decode cX1_fails 1 = .ok (.iload_n 1, 1) := dk_27 (dk_at dksX1_fails_0 1 rfl rfl)
theorem dX1_fails_2 : decode cX1_fails 2 = .ok (.putfield 76, 3) := dk_181 0 76 (dk_at dksX1_fails_0 2 rfl rfl)
theorem dX1_fails_5 : decode cX1_fails 5 = .ok (.bipush (-10), 2) := dk_16 246 (dk_at dksX1_fails_0 5 rfl rfl)
theorem dX1_fails_7 : decode cX1_fails 7 = .ok (.iload_n 1, 1) := dk_27 (dk_at dksX1_fails_0 7 rfl rfl)
theorem dX1_fails_8 : decode cX1_fails 8 = .ok (.isub, 1) := dk_100 (dk_at dksX1_fails_0 8 rfl rfl)
theorem dX1_fails_9 : decode cX1_fails 9 = .ok (.ireturn, 1) := dk_172 (dk_at dksX1_fails_0 9 rfl rfl)
abbrev cX1_readSea : ByteArray := prog_16_method_17_code
def yX1_readSea : MethodName := ⟨RX1, "readSea", "(I)Z"⟩
def dkwX1_readSea_5 : List UInt8 := [154, 255, 205, 3, 172, 4, 172]
abbrev dktX1_readSea_5 : List UInt8 := dkwX1_readSea_5 ++ []
def dkwX1_readSea_4 : List UInt8 := [182, 0, 126, 154, 0, 5, 3, 172, 42, 89, 180, 0, 89, 4, 96, 181, 0, 89, 42, 27, 182, 0, 130]
abbrev dktX1_readSea_4 : List UInt8 := dkwX1_readSea_4 ++ dktX1_readSea_5
def dkwX1_readSea_3 : List UInt8 := [161, 0, 11, 42, 180, 0, 89, 27, 162, 0, 43, 42, 180, 0, 117, 6, 159, 0, 13, 42, 16, 59, 27]
abbrev dktX1_readSea_3 : List UInt8 := dkwX1_readSea_3 ++ dktX1_readSea_4
def dkwX1_readSea_2 : List UInt8 := [3, 172, 42, 89, 180, 0, 89, 4, 96, 181, 0, 89, 42, 3, 181, 0, 117, 42, 180, 0, 117, 4]
abbrev dktX1_readSea_2 : List UInt8 := dkwX1_readSea_2 ++ dktX1_readSea_3
def dkwX1_readSea_1 : List UInt8 := [42, 180, 0, 89, 27, 182, 0, 92, 181, 0, 114, 42, 180, 0, 114, 5, 16, 6, 184, 0, 82, 154, 0, 5]
abbrev dktX1_readSea_1 : List UInt8 := dkwX1_readSea_1 ++ dktX1_readSea_2
def dkwX1_readSea_0 : List UInt8 := [42, 16, 115, 27, 182, 0, 126, 154, 0, 5, 3, 172, 42, 89, 180, 0, 89, 4, 96, 181, 0, 89, 42, 42]
abbrev dktX1_readSea_0 : List UInt8 := dkwX1_readSea_0 ++ dktX1_readSea_1
theorem dksX1_readSea_0 : cX1_readSea.data.toList.drop 0 = dktX1_readSea_0 := by decide +kernel
theorem dksX1_readSea_1 : cX1_readSea.data.toList.drop 24 = dktX1_readSea_1 := dk_seg dksX1_readSea_0 24 rfl rfl
theorem dksX1_readSea_2 : cX1_readSea.data.toList.drop 48 = dktX1_readSea_2 := dk_seg dksX1_readSea_1 24 rfl rfl
theorem dksX1_readSea_3 : cX1_readSea.data.toList.drop 70 = dktX1_readSea_3 := dk_seg dksX1_readSea_2 22 rfl rfl
theorem dksX1_readSea_4 : cX1_readSea.data.toList.drop 93 = dktX1_readSea_4 := dk_seg dksX1_readSea_3 23 rfl rfl
theorem dksX1_readSea_5 : cX1_readSea.data.toList.drop 116 = dktX1_readSea_5 := dk_seg dksX1_readSea_4 23 rfl rfl
theorem dX1_readSea_0 : decode cX1_readSea 0 = .ok (.aload_n 0, 1) := dk_42 (dk_at dksX1_readSea_0 0 rfl rfl)
theorem dX1_readSea_1 : decode cX1_readSea 1 = .ok (.bipush 115, 2) := dk_16 115 (dk_at dksX1_readSea_0 1 rfl rfl)
theorem dX1_readSea_3 : decode cX1_readSea 3 = .ok (.iload_n 1, 1) := dk_27 (dk_at dksX1_readSea_0 3 rfl rfl)
theorem dX1_readSea_4 : decode cX1_readSea 4 = .ok (.invokevirtual 126, 3) := dk_182 0 126 (dk_at dksX1_readSea_0 4 rfl rfl)
theorem dX1_readSea_7 : decode cX1_readSea 7 = .ok (.ifCond .ne 5, 3) := dk_154 0 5 (dk_at dksX1_readSea_0 7 rfl rfl)
theorem dX1_readSea_10 : decode cX1_readSea 10 = .ok (.iconst 0, 1) := dk_3 (dk_at dksX1_readSea_0 10 rfl rfl)
theorem dX1_readSea_11 : decode cX1_readSea 11 = .ok (.ireturn, 1) := dk_172 (dk_at dksX1_readSea_0 11 rfl rfl)
theorem dX1_readSea_12 : decode cX1_readSea 12 = .ok (.aload_n 0, 1) := dk_42 (dk_at dksX1_readSea_0 12 rfl rfl)
theorem dX1_readSea_13 : decode cX1_readSea 13 = .ok (.dup, 1) := dk_89 (dk_at dksX1_readSea_0 13 rfl rfl)
theorem dX1_readSea_14 : decode cX1_readSea 14 = .ok (.getfield 89, 3) := dk_180 0 89 (dk_at dksX1_readSea_0 14 rfl rfl)
theorem dX1_readSea_17 : decode cX1_readSea 17 = .ok (.iconst 1, 1) := dk_4 (dk_at dksX1_readSea_0 17 rfl rfl)
theorem dX1_readSea_18 : decode cX1_readSea 18 = .ok (.iadd, 1) := dk_96 (dk_at dksX1_readSea_0 18 rfl rfl)
theorem dX1_readSea_19 : decode cX1_readSea 19 = .ok (.putfield 89, 3) := dk_181 0 89 (dk_at dksX1_readSea_0 19 rfl rfl)
theorem dX1_readSea_22 : decode cX1_readSea 22 = .ok (.aload_n 0, 1) := dk_42 (dk_at dksX1_readSea_0 22 rfl rfl)
theorem dX1_readSea_23 : decode cX1_readSea 23 = .ok (.aload_n 0, 1) := dk_42 (dk_at dksX1_readSea_0 23 rfl rfl)
theorem dX1_readSea_24 : decode cX1_readSea 24 = .ok (.aload_n 0, 1) := dk_42 (dk_at dksX1_readSea_1 0 rfl rfl)
theorem dX1_readSea_25 : decode cX1_readSea 25 = .ok (.getfield 89, 3) := dk_180 0 89 (dk_at dksX1_readSea_1 1 rfl rfl)
theorem dX1_readSea_28 : decode cX1_readSea 28 = .ok (.iload_n 1, 1) := dk_27 (dk_at dksX1_readSea_1 4 rfl rfl)
theorem dX1_readSea_29 : decode cX1_readSea 29 = .ok (.invokevirtual 92, 3) := dk_182 0 92 (dk_at dksX1_readSea_1 5 rfl rfl)
theorem dX1_readSea_32 : decode cX1_readSea 32 = .ok (.putfield 114, 3) := dk_181 0 114 (dk_at dksX1_readSea_1 8 rfl rfl)
theorem dX1_readSea_35 : decode cX1_readSea 35 = .ok (.aload_n 0, 1) := dk_42 (dk_at dksX1_readSea_1 11 rfl rfl)
theorem dX1_readSea_36 : decode cX1_readSea 36 = .ok (.getfield 114, 3) := dk_180 0 114 (dk_at dksX1_readSea_1 12 rfl rfl)
theorem dX1_readSea_39 : decode cX1_readSea 39 = .ok (.iconst 2, 1) := dk_5 (dk_at dksX1_readSea_1 15 rfl rfl)
theorem dX1_readSea_40 : decode cX1_readSea 40 = .ok (.bipush 6, 2) := dk_16 6 (dk_at dksX1_readSea_1 16 rfl rfl)
theorem dX1_readSea_42 : decode cX1_readSea 42 = .ok (.invokestatic 82, 3) := dk_184 0 82 (dk_at dksX1_readSea_1 18 rfl rfl)
theorem dX1_readSea_45 : decode cX1_readSea 45 = .ok (.ifCond .ne 5, 3) := dk_154 0 5 (dk_at dksX1_readSea_1 21 rfl rfl)
theorem dX1_readSea_48 : decode cX1_readSea 48 = .ok (.iconst 0, 1) := dk_3 (dk_at dksX1_readSea_2 0 rfl rfl)
theorem dX1_readSea_49 : decode cX1_readSea 49 = .ok (.ireturn, 1) := dk_172 (dk_at dksX1_readSea_2 1 rfl rfl)
theorem dX1_readSea_50 : decode cX1_readSea 50 = .ok (.aload_n 0, 1) := dk_42 (dk_at dksX1_readSea_2 2 rfl rfl)
theorem dX1_readSea_51 : decode cX1_readSea 51 = .ok (.dup, 1) := dk_89 (dk_at dksX1_readSea_2 3 rfl rfl)
theorem dX1_readSea_52 : decode cX1_readSea 52 = .ok (.getfield 89, 3) := dk_180 0 89 (dk_at dksX1_readSea_2 4 rfl rfl)
theorem dX1_readSea_55 : decode cX1_readSea 55 = .ok (.iconst 1, 1) := dk_4 (dk_at dksX1_readSea_2 7 rfl rfl)
theorem dX1_readSea_56 : decode cX1_readSea 56 = .ok (.iadd, 1) := dk_96 (dk_at dksX1_readSea_2 8 rfl rfl)
theorem dX1_readSea_57 : decode cX1_readSea 57 = .ok (.putfield 89, 3) := dk_181 0 89 (dk_at dksX1_readSea_2 9 rfl rfl)
theorem dX1_readSea_60 : decode cX1_readSea 60 = .ok (.aload_n 0, 1) := dk_42 (dk_at dksX1_readSea_2 12 rfl rfl)
theorem dX1_readSea_61 : decode cX1_readSea 61 = .ok (.iconst 0, 1) := dk_3 (dk_at dksX1_readSea_2 13 rfl rfl)
theorem dX1_readSea_62 : decode cX1_readSea 62 = .ok (.putfield 117, 3) := dk_181 0 117 (dk_at dksX1_readSea_2 14 rfl rfl)
theorem dX1_readSea_65 : decode cX1_readSea 65 = .ok (.aload_n 0, 1) := dk_42 (dk_at dksX1_readSea_2 17 rfl rfl)
theorem dX1_readSea_66 : decode cX1_readSea 66 = .ok (.getfield 117, 3) := dk_180 0 117 (dk_at dksX1_readSea_2 18 rfl rfl)
theorem dX1_readSea_69 : decode cX1_readSea 69 = .ok (.iconst 1, 1) := dk_4 (dk_at dksX1_readSea_2 21 rfl rfl)
theorem dX1_readSea_70 : decode cX1_readSea 70 = .ok (.if_icmp .lt 11, 3) := dk_161 0 11 (dk_at dksX1_readSea_3 0 rfl rfl)
theorem dX1_readSea_73 : decode cX1_readSea 73 = .ok (.aload_n 0, 1) := dk_42 (dk_at dksX1_readSea_3 3 rfl rfl)
theorem dX1_readSea_74 : decode cX1_readSea 74 = .ok (.getfield 89, 3) := dk_180 0 89 (dk_at dksX1_readSea_3 4 rfl rfl)
theorem dX1_readSea_77 : decode cX1_readSea 77 = .ok (.iload_n 1, 1) := dk_27 (dk_at dksX1_readSea_3 7 rfl rfl)
theorem dX1_readSea_78 : decode cX1_readSea 78 = .ok (.if_icmp .ge 43, 3) := dk_162 0 43 (dk_at dksX1_readSea_3 8 rfl rfl)
theorem dX1_readSea_81 : decode cX1_readSea 81 = .ok (.aload_n 0, 1) := dk_42 (dk_at dksX1_readSea_3 11 rfl rfl)
theorem dX1_readSea_82 : decode cX1_readSea 82 = .ok (.getfield 117, 3) := dk_180 0 117 (dk_at dksX1_readSea_3 12 rfl rfl)
theorem dX1_readSea_85 : decode cX1_readSea 85 = .ok (.iconst 3, 1) := dk_6 (dk_at dksX1_readSea_3 15 rfl rfl)
theorem dX1_readSea_86 : decode cX1_readSea 86 = .ok (.if_icmp .eq 13, 3) := dk_159 0 13 (dk_at dksX1_readSea_3 16 rfl rfl)
theorem dX1_readSea_89 : decode cX1_readSea 89 = .ok (.aload_n 0, 1) := dk_42 (dk_at dksX1_readSea_3 19 rfl rfl)
theorem dX1_readSea_90 : decode cX1_readSea 90 = .ok (.bipush 59, 2) := dk_16 59 (dk_at dksX1_readSea_3 20 rfl rfl)
theorem dX1_readSea_92 : decode cX1_readSea 92 = .ok (.iload_n 1, 1) := dk_27 (dk_at dksX1_readSea_3 22 rfl rfl)
theorem dX1_readSea_93 : decode cX1_readSea 93 = .ok (.invokevirtual 126, 3) := dk_182 0 126 (dk_at dksX1_readSea_4 0 rfl rfl)
theorem dX1_readSea_96 : decode cX1_readSea 96 = .ok (.ifCond .ne 5, 3) := dk_154 0 5 (dk_at dksX1_readSea_4 3 rfl rfl)
theorem dX1_readSea_99 : decode cX1_readSea 99 = .ok (.iconst 0, 1) := dk_3 (dk_at dksX1_readSea_4 6 rfl rfl)
theorem dX1_readSea_100 : decode cX1_readSea 100 = .ok (.ireturn, 1) := dk_172 (dk_at dksX1_readSea_4 7 rfl rfl)
theorem dX1_readSea_101 : decode cX1_readSea 101 = .ok (.aload_n 0, 1) := dk_42 (dk_at dksX1_readSea_4 8 rfl rfl)
theorem dX1_readSea_102 : decode cX1_readSea 102 = .ok (.dup, 1) := dk_89 (dk_at dksX1_readSea_4 9 rfl rfl)
theorem dX1_readSea_103 : decode cX1_readSea 103 = .ok (.getfield 89, 3) := dk_180 0 89 (dk_at dksX1_readSea_4 10 rfl rfl)
theorem dX1_readSea_106 : decode cX1_readSea 106 = .ok (.iconst 1, 1) := dk_4 (dk_at dksX1_readSea_4 13 rfl rfl)
theorem dX1_readSea_107 : decode cX1_readSea 107 = .ok (.iadd, 1) := dk_96 (dk_at dksX1_readSea_4 14 rfl rfl)
theorem dX1_readSea_108 : decode cX1_readSea 108 = .ok (.putfield 89, 3) := dk_181 0 89 (dk_at dksX1_readSea_4 15 rfl rfl)
theorem dX1_readSea_111 : decode cX1_readSea 111 = .ok (.aload_n 0, 1) := dk_42 (dk_at dksX1_readSea_4 18 rfl rfl)
theorem dX1_readSea_112 : decode cX1_readSea 112 = .ok (.iload_n 1, 1) := dk_27 (dk_at dksX1_readSea_4 19 rfl rfl)
theorem dX1_readSea_113 : decode cX1_readSea 113 = .ok (.invokevirtual 130, 3) := dk_182 0 130 (dk_at dksX1_readSea_4 20 rfl rfl)
theorem dX1_readSea_116 : decode cX1_readSea 116 = .ok (.ifCond .ne (-51), 3) := dk_154 255 205 (dk_at dksX1_readSea_5 0 rfl rfl)
theorem dX1_readSea_119 : decode cX1_readSea 119 = .ok (.iconst 0, 1) := dk_3 (dk_at dksX1_readSea_5 3 rfl rfl)
theorem dX1_readSea_120 : decode cX1_readSea 120 = .ok (.ireturn, 1) := dk_172 (dk_at dksX1_readSea_5 4 rfl rfl)
theorem dX1_readSea_121 : decode cX1_readSea 121 = .ok (.iconst 1, 1) := dk_4 (dk_at dksX1_readSea_5 5 rfl rfl)
theorem dX1_readSea_122 : decode cX1_readSea 122 = .ok (.ireturn, 1) := dk_172 (dk_at dksX1_readSea_5 6 rfl rfl)
abbrev cX1_isCode : ByteArray := prog_16_method_14_code
def yX1_isCode : MethodName := ⟨RX1, "isCode", "(II)Z"⟩
def dkwX1_isCode_1 : List UInt8 := [167, 0, 4, 3, 172]
abbrev dktX1_isCode_1 : List UInt8 := dkwX1_isCode_1 ++ []
def dkwX1_isCode_0 : List UInt8 := [42, 180, 0, 89, 28, 162, 0, 20, 42, 180, 0, 16, 42, 180, 0, 89, 46, 27, 160, 0, 7, 4]
abbrev dktX1_isCode_0 : List UInt8 := dkwX1_isCode_0 ++ dktX1_isCode_1
theorem dksX1_isCode_0 : cX1_isCode.data.toList.drop 0 = dktX1_isCode_0 := by decide +kernel
theorem dksX1_isCode_1 : cX1_isCode.data.toList.drop 22 = dktX1_isCode_1 := dk_seg dksX1_isCode_0 22 rfl rfl
theorem dX1_isCode_0 : decode cX1_isCode 0 = .ok (.aload_n 0, 1) := dk_42 (dk_at dksX1_isCode_0 0 rfl rfl)
theorem dX1_isCode_1 : decode cX1_isCode 1 = .ok (.getfield 89, 3) := dk_180 0 89 (dk_at dksX1_isCode_0 1 rfl rfl)
theorem dX1_isCode_4 : decode cX1_isCode 4 = .ok (.iload_n 2, 1) := dk_28 (dk_at dksX1_isCode_0 4 rfl rfl)
theorem dX1_isCode_5 : decode cX1_isCode 5 = .ok (.if_icmp .ge 20, 3) := dk_162 0 20 (dk_at dksX1_isCode_0 5 rfl rfl)
theorem dX1_isCode_8 : decode cX1_isCode 8 = .ok (.aload_n 0, 1) := dk_42 (dk_at dksX1_isCode_0 8 rfl rfl)
theorem dX1_isCode_9 : decode cX1_isCode 9 = .ok (.getfield 16, 3) := dk_180 0 16 (dk_at dksX1_isCode_0 9 rfl rfl)
theorem dX1_isCode_12 : decode cX1_isCode 12 = .ok (.aload_n 0, 1) := dk_42 (dk_at dksX1_isCode_0 12 rfl rfl)
theorem dX1_isCode_13 : decode cX1_isCode 13 = .ok (.getfield 89, 3) := dk_180 0 89 (dk_at dksX1_isCode_0 13 rfl rfl)
theorem dX1_isCode_16 : decode cX1_isCode 16 = .ok (.iaload, 1) := dk_46 (dk_at dksX1_isCode_0 16 rfl rfl)
theorem dX1_isCode_17 : decode cX1_isCode 17 = .ok (.iload_n 1, 1) := dk_27 (dk_at dksX1_isCode_0 17 rfl rfl)
theorem dX1_isCode_18 : decode cX1_isCode 18 = .ok (.if_icmp .ne 7, 3) := dk_160 0 7 (dk_at dksX1_isCode_0 18 rfl rfl)
theorem dX1_isCode_21 : decode cX1_isCode 21 = .ok (.iconst 1, 1) := dk_4 (dk_at dksX1_isCode_0 21 rfl rfl)
theorem dX1_isCode_22 : decode cX1_isCode 22 = .ok (.goto 4, 3) := dk_167 0 4 (dk_at dksX1_isCode_1 0 rfl rfl)
theorem dX1_isCode_25 : decode cX1_isCode 25 = .ok (.iconst 0, 1) := dk_3 (dk_at dksX1_isCode_1 3 rfl rfl)
theorem dX1_isCode_26 : decode cX1_isCode 26 = .ok (.ireturn, 1) := dk_172 (dk_at dksX1_isCode_1 4 rfl rfl)
abbrev cX1_digitAt : ByteArray := prog_16_method_13_code
def yX1_digitAt : MethodName := ⟨RX1, "digitAt", "(II)I"⟩
def dkwX1_digitAt_1 : List UInt8 := [180, 0, 16, 27, 46, 16, 48, 100, 167, 0, 5, 16, 247, 172]
abbrev dktX1_digitAt_1 : List UInt8 := dkwX1_digitAt_1 ++ []
def dkwX1_digitAt_0 : List UInt8 := [27, 28, 162, 0, 31, 42, 180, 0, 16, 27, 46, 16, 48, 16, 57, 184, 0, 82, 153, 0, 15, 42]
abbrev dktX1_digitAt_0 : List UInt8 := dkwX1_digitAt_0 ++ dktX1_digitAt_1
theorem dksX1_digitAt_0 : cX1_digitAt.data.toList.drop 0 = dktX1_digitAt_0 := by decide +kernel
theorem dksX1_digitAt_1 : cX1_digitAt.data.toList.drop 22 = dktX1_digitAt_1 := dk_seg dksX1_digitAt_0 22 rfl rfl
theorem dX1_digitAt_0 : decode cX1_digitAt 0 = .ok (.iload_n 1, 1) := dk_27 (dk_at dksX1_digitAt_0 0 rfl rfl)
theorem dX1_digitAt_1 : decode cX1_digitAt 1 = .ok (.iload_n 2, 1) := dk_28 (dk_at dksX1_digitAt_0 1 rfl rfl)
theorem dX1_digitAt_2 : decode cX1_digitAt 2 = .ok (.if_icmp .ge 31, 3) := dk_162 0 31 (dk_at dksX1_digitAt_0 2 rfl rfl)
theorem dX1_digitAt_5 : decode cX1_digitAt 5 = .ok (.aload_n 0, 1) := dk_42 (dk_at dksX1_digitAt_0 5 rfl rfl)
theorem dX1_digitAt_6 : decode cX1_digitAt 6 = .ok (.getfield 16, 3) := dk_180 0 16 (dk_at dksX1_digitAt_0 6 rfl rfl)
theorem dX1_digitAt_9 : decode cX1_digitAt 9 = .ok (.iload_n 1, 1) := dk_27 (dk_at dksX1_digitAt_0 9 rfl rfl)
theorem dX1_digitAt_10 : decode cX1_digitAt 10 = .ok (.iaload, 1) := dk_46 (dk_at dksX1_digitAt_0 10 rfl rfl)
theorem dX1_digitAt_11 : decode cX1_digitAt 11 = .ok (.bipush 48, 2) := dk_16 48 (dk_at dksX1_digitAt_0 11 rfl rfl)
theorem dX1_digitAt_13 : decode cX1_digitAt 13 = .ok (.bipush 57, 2) := dk_16 57 (dk_at dksX1_digitAt_0 13 rfl rfl)
theorem dX1_digitAt_15 : decode cX1_digitAt 15 = .ok (.invokestatic 82, 3) := dk_184 0 82 (dk_at dksX1_digitAt_0 15 rfl rfl)
theorem dX1_digitAt_18 : decode cX1_digitAt 18 = .ok (.ifCond .eq 15, 3) := dk_153 0 15 (dk_at dksX1_digitAt_0 18 rfl rfl)
theorem dX1_digitAt_21 : decode cX1_digitAt 21 = .ok (.aload_n 0, 1) := dk_42 (dk_at dksX1_digitAt_0 21 rfl rfl)
theorem dX1_digitAt_22 : decode cX1_digitAt 22 = .ok (.getfield 16, 3) := dk_180 0 16 (dk_at dksX1_digitAt_1 0 rfl rfl)
theorem dX1_digitAt_25 : decode cX1_digitAt 25 = .ok (.iload_n 1, 1) := dk_27 (dk_at dksX1_digitAt_1 3 rfl rfl)
theorem dX1_digitAt_26 : decode cX1_digitAt 26 = .ok (.iaload, 1) := dk_46 (dk_at dksX1_digitAt_1 4 rfl rfl)
theorem dX1_digitAt_27 : decode cX1_digitAt 27 = .ok (.bipush 48, 2) := dk_16 48 (dk_at dksX1_digitAt_1 5 rfl rfl)
theorem dX1_digitAt_29 : decode cX1_digitAt 29 = .ok (.isub, 1) := dk_100 (dk_at dksX1_digitAt_1 7 rfl rfl)
theorem dX1_digitAt_30 : decode cX1_digitAt 30 = .ok (.goto 5, 3) := dk_167 0 5 (dk_at dksX1_digitAt_1 8 rfl rfl)
theorem dX1_digitAt_33 : decode cX1_digitAt 33 = .ok (.bipush (-9), 2) := dk_16 247 (dk_at dksX1_digitAt_1 11 rfl rfl)
theorem dX1_digitAt_35 : decode cX1_digitAt 35 = .ok (.ireturn, 1) := dk_172 (dk_at dksX1_digitAt_1 13 rfl rfl)
abbrev cX1_readMoon : ByteArray := prog_16_method_18_code
def yX1_readMoon : MethodName := ⟨RX1, "readMoon", "(I)Z"⟩
def dkwX1_readMoon_5 : List UInt8 := [4, 96, 181, 0, 117, 42, 180, 0, 34, 28, 46, 16, 247, 159, 0, 7, 4, 167, 0, 4, 3, 172]
abbrev dktX1_readMoon_5 : List UInt8 := dkwX1_readMoon_5 ++ []
def dkwX1_readMoon_4 : List UInt8 := [180, 0, 34, 28, 42, 27, 3, 42, 180, 0, 28, 28, 46, 4, 100, 182, 0, 133, 79, 42, 89, 180, 0, 117]
abbrev dktX1_readMoon_4 : List UInt8 := dkwX1_readMoon_4 ++ dktX1_readMoon_5
def dkwX1_readMoon_3 : List UInt8 := [180, 0, 31, 28, 46, 4, 162, 0, 5, 3, 172, 42, 89, 180, 0, 89, 4, 96, 181, 0, 89, 42]
abbrev dktX1_readMoon_3 : List UInt8 := dkwX1_readMoon_3 ++ dktX1_readMoon_4
def dkwX1_readMoon_2 : List UInt8 := [16, 247, 160, 0, 5, 3, 172, 42, 180, 0, 31, 28, 42, 42, 180, 0, 89, 27, 182, 0, 92, 79, 42]
abbrev dktX1_readMoon_2 : List UInt8 := dkwX1_readMoon_2 ++ dktX1_readMoon_3
def dkwX1_readMoon_1 : List UInt8 := [180, 0, 117, 61, 42, 180, 0, 28, 28, 42, 27, 5, 16, 30, 182, 0, 133, 79, 42, 180, 0, 28, 28, 46]
abbrev dktX1_readMoon_1 : List UInt8 := dkwX1_readMoon_1 ++ dktX1_readMoon_2
def dkwX1_readMoon_0 : List UInt8 := [42, 16, 109, 27, 182, 0, 126, 154, 0, 5, 3, 172, 42, 89, 180, 0, 89, 4, 96, 181, 0, 89, 42]
abbrev dktX1_readMoon_0 : List UInt8 := dkwX1_readMoon_0 ++ dktX1_readMoon_1
theorem dksX1_readMoon_0 : cX1_readMoon.data.toList.drop 0 = dktX1_readMoon_0 := by decide +kernel
theorem dksX1_readMoon_1 : cX1_readMoon.data.toList.drop 23 = dktX1_readMoon_1 := dk_seg dksX1_readMoon_0 23 rfl rfl
theorem dksX1_readMoon_2 : cX1_readMoon.data.toList.drop 47 = dktX1_readMoon_2 := dk_seg dksX1_readMoon_1 24 rfl rfl
theorem dksX1_readMoon_3 : cX1_readMoon.data.toList.drop 70 = dktX1_readMoon_3 := dk_seg dksX1_readMoon_2 23 rfl rfl
theorem dksX1_readMoon_4 : cX1_readMoon.data.toList.drop 92 = dktX1_readMoon_4 := dk_seg dksX1_readMoon_3 22 rfl rfl
theorem dksX1_readMoon_5 : cX1_readMoon.data.toList.drop 116 = dktX1_readMoon_5 := dk_seg dksX1_readMoon_4 24 rfl rfl
theorem dX1_readMoon_0 : decode cX1_readMoon 0 = .ok (.aload_n 0, 1) := dk_42 (dk_at dksX1_readMoon_0 0 rfl rfl)
theorem dX1_readMoon_1 : decode cX1_readMoon 1 = .ok (.bipush 109, 2) := dk_16 109 (dk_at dksX1_readMoon_0 1 rfl rfl)
theorem dX1_readMoon_3 : decode cX1_readMoon 3 = .ok (.iload_n 1, 1) := dk_27 (dk_at dksX1_readMoon_0 3 rfl rfl)
theorem dX1_readMoon_4 : decode cX1_readMoon 4 = .ok (.invokevirtual 126, 3) := dk_182 0 126 (dk_at dksX1_readMoon_0 4 rfl rfl)
theorem dX1_readMoon_7 : decode cX1_readMoon 7 = .ok (.ifCond .ne 5, 3) := dk_154 0 5 (dk_at dksX1_readMoon_0 7 rfl rfl)
theorem dX1_readMoon_10 : decode cX1_readMoon 10 = .ok (.iconst 0, 1) := dk_3 (dk_at dksX1_readMoon_0 10 rfl rfl)
theorem dX1_readMoon_11 : decode cX1_readMoon 11 = .ok (.ireturn, 1) := dk_172 (dk_at dksX1_readMoon_0 11 rfl rfl)
theorem dX1_readMoon_12 : decode cX1_readMoon 12 = .ok (.aload_n 0, 1) := dk_42 (dk_at dksX1_readMoon_0 12 rfl rfl)
theorem dX1_readMoon_13 : decode cX1_readMoon 13 = .ok (.dup, 1) := dk_89 (dk_at dksX1_readMoon_0 13 rfl rfl)
theorem dX1_readMoon_14 : decode cX1_readMoon 14 = .ok (.getfield 89, 3) := dk_180 0 89 (dk_at dksX1_readMoon_0 14 rfl rfl)
theorem dX1_readMoon_17 : decode cX1_readMoon 17 = .ok (.iconst 1, 1) := dk_4 (dk_at dksX1_readMoon_0 17 rfl rfl)
theorem dX1_readMoon_18 : decode cX1_readMoon 18 = .ok (.iadd, 1) := dk_96 (dk_at dksX1_readMoon_0 18 rfl rfl)
theorem dX1_readMoon_19 : decode cX1_readMoon 19 = .ok (.putfield 89, 3) := dk_181 0 89 (dk_at dksX1_readMoon_0 19 rfl rfl)
theorem dX1_readMoon_22 : decode cX1_readMoon 22 = .ok (.aload_n 0, 1) := dk_42 (dk_at dksX1_readMoon_0 22 rfl rfl)
theorem dX1_readMoon_23 : decode cX1_readMoon 23 = .ok (.getfield 117, 3) := dk_180 0 117 (dk_at dksX1_readMoon_1 0 rfl rfl)
theorem dX1_readMoon_26 : decode cX1_readMoon 26 = .ok (.istore_n 2, 1) := dk_61 (dk_at dksX1_readMoon_1 3 rfl rfl)
theorem dX1_readMoon_27 : decode cX1_readMoon 27 = .ok (.aload_n 0, 1) := dk_42 (dk_at dksX1_readMoon_1 4 rfl rfl)
theorem dX1_readMoon_28 : decode cX1_readMoon 28 = .ok (.getfield 28, 3) := dk_180 0 28 (dk_at dksX1_readMoon_1 5 rfl rfl)
theorem dX1_readMoon_31 : decode cX1_readMoon 31 = .ok (.iload_n 2, 1) := dk_28 (dk_at dksX1_readMoon_1 8 rfl rfl)
theorem dX1_readMoon_32 : decode cX1_readMoon 32 = .ok (.aload_n 0, 1) := dk_42 (dk_at dksX1_readMoon_1 9 rfl rfl)
theorem dX1_readMoon_33 : decode cX1_readMoon 33 = .ok (.iload_n 1, 1) := dk_27 (dk_at dksX1_readMoon_1 10 rfl rfl)
theorem dX1_readMoon_34 : decode cX1_readMoon 34 = .ok (.iconst 2, 1) := dk_5 (dk_at dksX1_readMoon_1 11 rfl rfl)
theorem dX1_readMoon_35 : decode cX1_readMoon 35 = .ok (.bipush 30, 2) := dk_16 30 (dk_at dksX1_readMoon_1 12 rfl rfl)
theorem dX1_readMoon_37 : decode cX1_readMoon 37 = .ok (.invokevirtual 133, 3) := dk_182 0 133 (dk_at dksX1_readMoon_1 14 rfl rfl)
theorem dX1_readMoon_40 : decode cX1_readMoon 40 = .ok (.iastore, 1) := dk_79 (dk_at dksX1_readMoon_1 17 rfl rfl)
theorem dX1_readMoon_41 : decode cX1_readMoon 41 = .ok (.aload_n 0, 1) := dk_42 (dk_at dksX1_readMoon_1 18 rfl rfl)
theorem dX1_readMoon_42 : decode cX1_readMoon 42 = .ok (.getfield 28, 3) := dk_180 0 28 (dk_at dksX1_readMoon_1 19 rfl rfl)
theorem dX1_readMoon_45 : decode cX1_readMoon 45 = .ok (.iload_n 2, 1) := dk_28 (dk_at dksX1_readMoon_1 22 rfl rfl)
theorem dX1_readMoon_46 : decode cX1_readMoon 46 = .ok (.iaload, 1) := dk_46 (dk_at dksX1_readMoon_1 23 rfl rfl)
theorem dX1_readMoon_47 : decode cX1_readMoon 47 = .ok (.bipush (-9), 2) := dk_16 247 (dk_at dksX1_readMoon_2 0 rfl rfl)
theorem dX1_readMoon_49 : decode cX1_readMoon 49 = .ok (.if_icmp .ne 5, 3) := dk_160 0 5 (dk_at dksX1_readMoon_2 2 rfl rfl)
theorem dX1_readMoon_52 : decode cX1_readMoon 52 = .ok (.iconst 0, 1) := dk_3 (dk_at dksX1_readMoon_2 5 rfl rfl)
theorem dX1_readMoon_53 : decode cX1_readMoon 53 = .ok (.ireturn, 1) := dk_172 (dk_at dksX1_readMoon_2 6 rfl rfl)
theorem dX1_readMoon_54 : decode cX1_readMoon 54 = .ok (.aload_n 0, 1) := dk_42 (dk_at dksX1_readMoon_2 7 rfl rfl)
theorem dX1_readMoon_55 : decode cX1_readMoon 55 = .ok (.getfield 31, 3) := dk_180 0 31 (dk_at dksX1_readMoon_2 8 rfl rfl)
theorem dX1_readMoon_58 : decode cX1_readMoon 58 = .ok (.iload_n 2, 1) := dk_28 (dk_at dksX1_readMoon_2 11 rfl rfl)
theorem dX1_readMoon_59 : decode cX1_readMoon 59 = .ok (.aload_n 0, 1) := dk_42 (dk_at dksX1_readMoon_2 12 rfl rfl)
theorem dX1_readMoon_60 : decode cX1_readMoon 60 = .ok (.aload_n 0, 1) := dk_42 (dk_at dksX1_readMoon_2 13 rfl rfl)
theorem dX1_readMoon_61 : decode cX1_readMoon 61 = .ok (.getfield 89, 3) := dk_180 0 89 (dk_at dksX1_readMoon_2 14 rfl rfl)
theorem dX1_readMoon_64 : decode cX1_readMoon 64 = .ok (.iload_n 1, 1) := dk_27 (dk_at dksX1_readMoon_2 17 rfl rfl)
theorem dX1_readMoon_65 : decode cX1_readMoon 65 = .ok (.invokevirtual 92, 3) := dk_182 0 92 (dk_at dksX1_readMoon_2 18 rfl rfl)
theorem dX1_readMoon_68 : decode cX1_readMoon 68 = .ok (.iastore, 1) := dk_79 (dk_at dksX1_readMoon_2 21 rfl rfl)
theorem dX1_readMoon_69 : decode cX1_readMoon 69 = .ok (.aload_n 0, 1) := dk_42 (dk_at dksX1_readMoon_2 22 rfl rfl)
theorem dX1_readMoon_70 : decode cX1_readMoon 70 = .ok (.getfield 31, 3) := dk_180 0 31 (dk_at dksX1_readMoon_3 0 rfl rfl)
theorem dX1_readMoon_73 : decode cX1_readMoon 73 = .ok (.iload_n 2, 1) := dk_28 (dk_at dksX1_readMoon_3 3 rfl rfl)
theorem dX1_readMoon_74 : decode cX1_readMoon 74 = .ok (.iaload, 1) := dk_46 (dk_at dksX1_readMoon_3 4 rfl rfl)
theorem dX1_readMoon_75 : decode cX1_readMoon 75 = .ok (.iconst 1, 1) := dk_4 (dk_at dksX1_readMoon_3 5 rfl rfl)
theorem dX1_readMoon_76 : decode cX1_readMoon 76 = .ok (.if_icmp .ge 5, 3) := dk_162 0 5 (dk_at dksX1_readMoon_3 6 rfl rfl)
theorem dX1_readMoon_79 : decode cX1_readMoon 79 = .ok (.iconst 0, 1) := dk_3 (dk_at dksX1_readMoon_3 9 rfl rfl)
theorem dX1_readMoon_80 : decode cX1_readMoon 80 = .ok (.ireturn, 1) := dk_172 (dk_at dksX1_readMoon_3 10 rfl rfl)
theorem dX1_readMoon_81 : decode cX1_readMoon 81 = .ok (.aload_n 0, 1) := dk_42 (dk_at dksX1_readMoon_3 11 rfl rfl)
theorem dX1_readMoon_82 : decode cX1_readMoon 82 = .ok (.dup, 1) := dk_89 (dk_at dksX1_readMoon_3 12 rfl rfl)
theorem dX1_readMoon_83 : decode cX1_readMoon 83 = .ok (.getfield 89, 3) := dk_180 0 89 (dk_at dksX1_readMoon_3 13 rfl rfl)
theorem dX1_readMoon_86 : decode cX1_readMoon 86 = .ok (.iconst 1, 1) := dk_4 (dk_at dksX1_readMoon_3 16 rfl rfl)
theorem dX1_readMoon_87 : decode cX1_readMoon 87 = .ok (.iadd, 1) := dk_96 (dk_at dksX1_readMoon_3 17 rfl rfl)
theorem dX1_readMoon_88 : decode cX1_readMoon 88 = .ok (.putfield 89, 3) := dk_181 0 89 (dk_at dksX1_readMoon_3 18 rfl rfl)
theorem dX1_readMoon_91 : decode cX1_readMoon 91 = .ok (.aload_n 0, 1) := dk_42 (dk_at dksX1_readMoon_3 21 rfl rfl)
theorem dX1_readMoon_92 : decode cX1_readMoon 92 = .ok (.getfield 34, 3) := dk_180 0 34 (dk_at dksX1_readMoon_4 0 rfl rfl)
theorem dX1_readMoon_95 : decode cX1_readMoon 95 = .ok (.iload_n 2, 1) := dk_28 (dk_at dksX1_readMoon_4 3 rfl rfl)
theorem dX1_readMoon_96 : decode cX1_readMoon 96 = .ok (.aload_n 0, 1) := dk_42 (dk_at dksX1_readMoon_4 4 rfl rfl)
theorem dX1_readMoon_97 : decode cX1_readMoon 97 = .ok (.iload_n 1, 1) := dk_27 (dk_at dksX1_readMoon_4 5 rfl rfl)
theorem dX1_readMoon_98 : decode cX1_readMoon 98 = .ok (.iconst 0, 1) := dk_3 (dk_at dksX1_readMoon_4 6 rfl rfl)
theorem dX1_readMoon_99 : decode cX1_readMoon 99 = .ok (.aload_n 0, 1) := dk_42 (dk_at dksX1_readMoon_4 7 rfl rfl)
theorem dX1_readMoon_100 : decode cX1_readMoon 100 = .ok (.getfield 28, 3) := dk_180 0 28 (dk_at dksX1_readMoon_4 8 rfl rfl)
theorem dX1_readMoon_103 : decode cX1_readMoon 103 = .ok (.iload_n 2, 1) := dk_28 (dk_at dksX1_readMoon_4 11 rfl rfl)
theorem dX1_readMoon_104 : decode cX1_readMoon 104 = .ok (.iaload, 1) := dk_46 (dk_at dksX1_readMoon_4 12 rfl rfl)
theorem dX1_readMoon_105 : decode cX1_readMoon 105 = .ok (.iconst 1, 1) := dk_4 (dk_at dksX1_readMoon_4 13 rfl rfl)
theorem dX1_readMoon_106 : decode cX1_readMoon 106 = .ok (.isub, 1) := dk_100 (dk_at dksX1_readMoon_4 14 rfl rfl)
theorem dX1_readMoon_107 : decode cX1_readMoon 107 = .ok (.invokevirtual 133, 3) := dk_182 0 133 (dk_at dksX1_readMoon_4 15 rfl rfl)
theorem dX1_readMoon_110 : decode cX1_readMoon 110 = .ok (.iastore, 1) := dk_79 (dk_at dksX1_readMoon_4 18 rfl rfl)
theorem dX1_readMoon_111 : decode cX1_readMoon 111 = .ok (.aload_n 0, 1) := dk_42 (dk_at dksX1_readMoon_4 19 rfl rfl)
theorem dX1_readMoon_112 : decode cX1_readMoon 112 = .ok (.dup, 1) := dk_89 (dk_at dksX1_readMoon_4 20 rfl rfl)
theorem dX1_readMoon_113 : decode cX1_readMoon 113 = .ok (.getfield 117, 3) := dk_180 0 117 (dk_at dksX1_readMoon_4 21 rfl rfl)
theorem dX1_readMoon_116 : decode cX1_readMoon 116 = .ok (.iconst 1, 1) := dk_4 (dk_at dksX1_readMoon_5 0 rfl rfl)
theorem dX1_readMoon_117 : decode cX1_readMoon 117 = .ok (.iadd, 1) := dk_96 (dk_at dksX1_readMoon_5 1 rfl rfl)
theorem dX1_readMoon_118 : decode cX1_readMoon 118 = .ok (.putfield 117, 3) := dk_181 0 117 (dk_at dksX1_readMoon_5 2 rfl rfl)
theorem dX1_readMoon_121 : decode cX1_readMoon 121 = .ok (.aload_n 0, 1) := dk_42 (dk_at dksX1_readMoon_5 5 rfl rfl)
theorem dX1_readMoon_122 : decode cX1_readMoon 122 = .ok (.getfield 34, 3) := dk_180 0 34 (dk_at dksX1_readMoon_5 6 rfl rfl)
theorem dX1_readMoon_125 : decode cX1_readMoon 125 = .ok (.iload_n 2, 1) := dk_28 (dk_at dksX1_readMoon_5 9 rfl rfl)
theorem dX1_readMoon_126 : decode cX1_readMoon 126 = .ok (.iaload, 1) := dk_46 (dk_at dksX1_readMoon_5 10 rfl rfl)
theorem dX1_readMoon_127 : decode cX1_readMoon 127 = .ok (.bipush (-9), 2) := dk_16 247 (dk_at dksX1_readMoon_5 11 rfl rfl)
theorem dX1_readMoon_129 : decode cX1_readMoon 129 = .ok (.if_icmp .eq 7, 3) := dk_159 0 7 (dk_at dksX1_readMoon_5 13 rfl rfl)
theorem dX1_readMoon_132 : decode cX1_readMoon 132 = .ok (.iconst 1, 1) := dk_4 (dk_at dksX1_readMoon_5 16 rfl rfl)
theorem dX1_readMoon_133 : decode cX1_readMoon 133 = .ok (.goto 4, 3) := dk_167 0 4 (dk_at dksX1_readMoon_5 17 rfl rfl)
theorem dX1_readMoon_136 : decode cX1_readMoon 136 = .ok (.iconst 0, 1) := dk_3 (dk_at dksX1_readMoon_5 20 rfl rfl)
theorem dX1_readMoon_137 : decode cX1_readMoon 137 = .ok (.ireturn, 1) := dk_172 (dk_at dksX1_readMoon_5 21 rfl rfl)
abbrev cX1_twoDigits : ByteArray := prog_16_method_15_code
def yX1_twoDigits : MethodName := ⟨RX1, "twoDigits", "(III)I"⟩
def dkwX1_twoDigits_4 : List UInt8 := [154, 0, 6, 16, 247, 172, 42, 89, 180, 0, 89, 5, 96, 181, 0, 89, 21, 6, 172]
abbrev dktX1_twoDigits_4 : List UInt8 := dkwX1_twoDigits_4 ++ []
def dkwX1_twoDigits_3 : List UInt8 := [181, 0, 89, 16, 247, 172, 16, 10, 21, 4, 104, 21, 5, 96, 54, 6, 21, 6, 28, 29, 184, 0, 82]
abbrev dktX1_twoDigits_3 : List UInt8 := dkwX1_twoDigits_3 ++ dktX1_twoDigits_4
def dkwX1_twoDigits_2 : List UInt8 := [4, 96, 27, 182, 0, 92, 54, 5, 21, 5, 16, 247, 160, 0, 16, 42, 89, 180, 0, 89, 4, 96]
abbrev dktX1_twoDigits_2 : List UInt8 := dkwX1_twoDigits_2 ++ dktX1_twoDigits_3
def dkwX1_twoDigits_1 : List UInt8 := [16, 9, 96, 28, 161, 0, 12, 16, 10, 21, 4, 104, 29, 164, 0, 6, 16, 247, 172, 42, 42, 180, 0, 89]
abbrev dktX1_twoDigits_1 : List UInt8 := dkwX1_twoDigits_1 ++ dktX1_twoDigits_2
def dkwX1_twoDigits_0 : List UInt8 := [42, 42, 180, 0, 89, 27, 182, 0, 92, 54, 4, 21, 4, 16, 247, 159, 0, 24, 16, 10, 21, 4, 104]
abbrev dktX1_twoDigits_0 : List UInt8 := dkwX1_twoDigits_0 ++ dktX1_twoDigits_1
theorem dksX1_twoDigits_0 : cX1_twoDigits.data.toList.drop 0 = dktX1_twoDigits_0 := by decide +kernel
theorem dksX1_twoDigits_1 : cX1_twoDigits.data.toList.drop 23 = dktX1_twoDigits_1 := dk_seg dksX1_twoDigits_0 23 rfl rfl
theorem dksX1_twoDigits_2 : cX1_twoDigits.data.toList.drop 47 = dktX1_twoDigits_2 := dk_seg dksX1_twoDigits_1 24 rfl rfl
theorem dksX1_twoDigits_3 : cX1_twoDigits.data.toList.drop 69 = dktX1_twoDigits_3 := dk_seg dksX1_twoDigits_2 22 rfl rfl
theorem dksX1_twoDigits_4 : cX1_twoDigits.data.toList.drop 92 = dktX1_twoDigits_4 := dk_seg dksX1_twoDigits_3 23 rfl rfl
theorem dX1_twoDigits_0 : decode cX1_twoDigits 0 = .ok (.aload_n 0, 1) := dk_42 (dk_at dksX1_twoDigits_0 0 rfl rfl)
theorem dX1_twoDigits_1 : decode cX1_twoDigits 1 = .ok (.aload_n 0, 1) := dk_42 (dk_at dksX1_twoDigits_0 1 rfl rfl)
theorem dX1_twoDigits_2 : decode cX1_twoDigits 2 = .ok (.getfield 89, 3) := dk_180 0 89 (dk_at dksX1_twoDigits_0 2 rfl rfl)
theorem dX1_twoDigits_5 : decode cX1_twoDigits 5 = .ok (.iload_n 1, 1) := dk_27 (dk_at dksX1_twoDigits_0 5 rfl rfl)
theorem dX1_twoDigits_6 : decode cX1_twoDigits 6 = .ok (.invokevirtual 92, 3) := dk_182 0 92 (dk_at dksX1_twoDigits_0 6 rfl rfl)
theorem dX1_twoDigits_9 : decode cX1_twoDigits 9 = .ok (.istore 4, 2) := dk_54 4 (dk_at dksX1_twoDigits_0 9 rfl rfl)
theorem dX1_twoDigits_11 : decode cX1_twoDigits 11 = .ok (.iload 4, 2) := dk_21 4 (dk_at dksX1_twoDigits_0 11 rfl rfl)
theorem dX1_twoDigits_13 : decode cX1_twoDigits 13 = .ok (.bipush (-9), 2) := dk_16 247 (dk_at dksX1_twoDigits_0 13 rfl rfl)
theorem dX1_twoDigits_15 : decode cX1_twoDigits 15 = .ok (.if_icmp .eq 24, 3) := dk_159 0 24 (dk_at dksX1_twoDigits_0 15 rfl rfl)
theorem dX1_twoDigits_18 : decode cX1_twoDigits 18 = .ok (.bipush 10, 2) := dk_16 10 (dk_at dksX1_twoDigits_0 18 rfl rfl)
theorem dX1_twoDigits_20 : decode cX1_twoDigits 20 = .ok (.iload 4, 2) := dk_21 4 (dk_at dksX1_twoDigits_0 20 rfl rfl)
theorem dX1_twoDigits_22 : decode cX1_twoDigits 22 = .ok (.imul, 1) := dk_104 (dk_at dksX1_twoDigits_0 22 rfl rfl)
theorem dX1_twoDigits_23 : decode cX1_twoDigits 23 = .ok (.bipush 9, 2) := dk_16 9 (dk_at dksX1_twoDigits_1 0 rfl rfl)
theorem dX1_twoDigits_25 : decode cX1_twoDigits 25 = .ok (.iadd, 1) := dk_96 (dk_at dksX1_twoDigits_1 2 rfl rfl)
theorem dX1_twoDigits_26 : decode cX1_twoDigits 26 = .ok (.iload_n 2, 1) := dk_28 (dk_at dksX1_twoDigits_1 3 rfl rfl)
theorem dX1_twoDigits_27 : decode cX1_twoDigits 27 = .ok (.if_icmp .lt 12, 3) := dk_161 0 12 (dk_at dksX1_twoDigits_1 4 rfl rfl)
theorem dX1_twoDigits_30 : decode cX1_twoDigits 30 = .ok (.bipush 10, 2) := dk_16 10 (dk_at dksX1_twoDigits_1 7 rfl rfl)
theorem dX1_twoDigits_32 : decode cX1_twoDigits 32 = .ok (.iload 4, 2) := dk_21 4 (dk_at dksX1_twoDigits_1 9 rfl rfl)
theorem dX1_twoDigits_34 : decode cX1_twoDigits 34 = .ok (.imul, 1) := dk_104 (dk_at dksX1_twoDigits_1 11 rfl rfl)
theorem dX1_twoDigits_35 : decode cX1_twoDigits 35 = .ok (.iload_n 3, 1) := dk_29 (dk_at dksX1_twoDigits_1 12 rfl rfl)
theorem dX1_twoDigits_36 : decode cX1_twoDigits 36 = .ok (.if_icmp .le 6, 3) := dk_164 0 6 (dk_at dksX1_twoDigits_1 13 rfl rfl)
theorem dX1_twoDigits_39 : decode cX1_twoDigits 39 = .ok (.bipush (-9), 2) := dk_16 247 (dk_at dksX1_twoDigits_1 16 rfl rfl)
theorem dX1_twoDigits_41 : decode cX1_twoDigits 41 = .ok (.ireturn, 1) := dk_172 (dk_at dksX1_twoDigits_1 18 rfl rfl)
theorem dX1_twoDigits_42 : decode cX1_twoDigits 42 = .ok (.aload_n 0, 1) := dk_42 (dk_at dksX1_twoDigits_1 19 rfl rfl)
theorem dX1_twoDigits_43 : decode cX1_twoDigits 43 = .ok (.aload_n 0, 1) := dk_42 (dk_at dksX1_twoDigits_1 20 rfl rfl)
theorem dX1_twoDigits_44 : decode cX1_twoDigits 44 = .ok (.getfield 89, 3) := dk_180 0 89 (dk_at dksX1_twoDigits_1 21 rfl rfl)
theorem dX1_twoDigits_47 : decode cX1_twoDigits 47 = .ok (.iconst 1, 1) := dk_4 (dk_at dksX1_twoDigits_2 0 rfl rfl)
theorem dX1_twoDigits_48 : decode cX1_twoDigits 48 = .ok (.iadd, 1) := dk_96 (dk_at dksX1_twoDigits_2 1 rfl rfl)
theorem dX1_twoDigits_49 : decode cX1_twoDigits 49 = .ok (.iload_n 1, 1) := dk_27 (dk_at dksX1_twoDigits_2 2 rfl rfl)
theorem dX1_twoDigits_50 : decode cX1_twoDigits 50 = .ok (.invokevirtual 92, 3) := dk_182 0 92 (dk_at dksX1_twoDigits_2 3 rfl rfl)
theorem dX1_twoDigits_53 : decode cX1_twoDigits 53 = .ok (.istore 5, 2) := dk_54 5 (dk_at dksX1_twoDigits_2 6 rfl rfl)
theorem dX1_twoDigits_55 : decode cX1_twoDigits 55 = .ok (.iload 5, 2) := dk_21 5 (dk_at dksX1_twoDigits_2 8 rfl rfl)
theorem dX1_twoDigits_57 : decode cX1_twoDigits 57 = .ok (.bipush (-9), 2) := dk_16 247 (dk_at dksX1_twoDigits_2 10 rfl rfl)
theorem dX1_twoDigits_59 : decode cX1_twoDigits 59 = .ok (.if_icmp .ne 16, 3) := dk_160 0 16 (dk_at dksX1_twoDigits_2 12 rfl rfl)
theorem dX1_twoDigits_62 : decode cX1_twoDigits 62 = .ok (.aload_n 0, 1) := dk_42 (dk_at dksX1_twoDigits_2 15 rfl rfl)
theorem dX1_twoDigits_63 : decode cX1_twoDigits 63 = .ok (.dup, 1) := dk_89 (dk_at dksX1_twoDigits_2 16 rfl rfl)
theorem dX1_twoDigits_64 : decode cX1_twoDigits 64 = .ok (.getfield 89, 3) := dk_180 0 89 (dk_at dksX1_twoDigits_2 17 rfl rfl)
theorem dX1_twoDigits_67 : decode cX1_twoDigits 67 = .ok (.iconst 1, 1) := dk_4 (dk_at dksX1_twoDigits_2 20 rfl rfl)
theorem dX1_twoDigits_68 : decode cX1_twoDigits 68 = .ok (.iadd, 1) := dk_96 (dk_at dksX1_twoDigits_2 21 rfl rfl)
theorem dX1_twoDigits_69 : decode cX1_twoDigits 69 = .ok (.putfield 89, 3) := dk_181 0 89 (dk_at dksX1_twoDigits_3 0 rfl rfl)
theorem dX1_twoDigits_72 : decode cX1_twoDigits 72 = .ok (.bipush (-9), 2) := dk_16 247 (dk_at dksX1_twoDigits_3 3 rfl rfl)
theorem dX1_twoDigits_74 : decode cX1_twoDigits 74 = .ok (.ireturn, 1) := dk_172 (dk_at dksX1_twoDigits_3 5 rfl rfl)
theorem dX1_twoDigits_75 : decode cX1_twoDigits 75 = .ok (.bipush 10, 2) := dk_16 10 (dk_at dksX1_twoDigits_3 6 rfl rfl)
theorem dX1_twoDigits_77 : decode cX1_twoDigits 77 = .ok (.iload 4, 2) := dk_21 4 (dk_at dksX1_twoDigits_3 8 rfl rfl)
theorem dX1_twoDigits_79 : decode cX1_twoDigits 79 = .ok (.imul, 1) := dk_104 (dk_at dksX1_twoDigits_3 10 rfl rfl)
theorem dX1_twoDigits_80 : decode cX1_twoDigits 80 = .ok (.iload 5, 2) := dk_21 5 (dk_at dksX1_twoDigits_3 11 rfl rfl)
theorem dX1_twoDigits_82 : decode cX1_twoDigits 82 = .ok (.iadd, 1) := dk_96 (dk_at dksX1_twoDigits_3 13 rfl rfl)
theorem dX1_twoDigits_83 : decode cX1_twoDigits 83 = .ok (.istore 6, 2) := dk_54 6 (dk_at dksX1_twoDigits_3 14 rfl rfl)
theorem dX1_twoDigits_85 : decode cX1_twoDigits 85 = .ok (.iload 6, 2) := dk_21 6 (dk_at dksX1_twoDigits_3 16 rfl rfl)
theorem dX1_twoDigits_87 : decode cX1_twoDigits 87 = .ok (.iload_n 2, 1) := dk_28 (dk_at dksX1_twoDigits_3 18 rfl rfl)
theorem dX1_twoDigits_88 : decode cX1_twoDigits 88 = .ok (.iload_n 3, 1) := dk_29 (dk_at dksX1_twoDigits_3 19 rfl rfl)
theorem dX1_twoDigits_89 : decode cX1_twoDigits 89 = .ok (.invokestatic 82, 3) := dk_184 0 82 (dk_at dksX1_twoDigits_3 20 rfl rfl)
theorem dX1_twoDigits_92 : decode cX1_twoDigits 92 = .ok (.ifCond .ne 6, 3) := dk_154 0 6 (dk_at dksX1_twoDigits_4 0 rfl rfl)
theorem dX1_twoDigits_95 : decode cX1_twoDigits 95 = .ok (.bipush (-9), 2) := dk_16 247 (dk_at dksX1_twoDigits_4 3 rfl rfl)
theorem dX1_twoDigits_97 : decode cX1_twoDigits 97 = .ok (.ireturn, 1) := dk_172 (dk_at dksX1_twoDigits_4 5 rfl rfl)
theorem dX1_twoDigits_98 : decode cX1_twoDigits 98 = .ok (.aload_n 0, 1) := dk_42 (dk_at dksX1_twoDigits_4 6 rfl rfl)
theorem dX1_twoDigits_99 : decode cX1_twoDigits 99 = .ok (.dup, 1) := dk_89 (dk_at dksX1_twoDigits_4 7 rfl rfl)
theorem dX1_twoDigits_100 : decode cX1_twoDigits 100 = .ok (.getfield 89, 3) := dk_180 0 89 (dk_at dksX1_twoDigits_4 8 rfl rfl)
theorem dX1_twoDigits_103 : decode cX1_twoDigits 103 = .ok (.iconst 2, 1) := dk_5 (dk_at dksX1_twoDigits_4 11 rfl rfl)
theorem dX1_twoDigits_104 : decode cX1_twoDigits 104 = .ok (.iadd, 1) := dk_96 (dk_at dksX1_twoDigits_4 12 rfl rfl)
theorem dX1_twoDigits_105 : decode cX1_twoDigits 105 = .ok (.putfield 89, 3) := dk_181 0 89 (dk_at dksX1_twoDigits_4 13 rfl rfl)
theorem dX1_twoDigits_108 : decode cX1_twoDigits 108 = .ok (.iload 6, 2) := dk_21 6 (dk_at dksX1_twoDigits_4 16 rfl rfl)
theorem dX1_twoDigits_110 : decode cX1_twoDigits 110 = .ok (.ireturn, 1) := dk_172 (dk_at dksX1_twoDigits_4 18 rfl rfl)
abbrev cX1_ofMoon : ByteArray := prog_16_method_19_code
def yX1_ofMoon : MethodName := ⟨RX1, "ofMoon", "(II)I"⟩
def dkwX1_ofMoon_2 : List UInt8 := [180, 0, 25, 27, 46, 167, 0, 5, 16, 254, 172]
abbrev dktX1_ofMoon_2 : List UInt8 := dkwX1_ofMoon_2 ++ []
def dkwX1_ofMoon_1 : List UInt8 := [167, 0, 33, 28, 4, 160, 0, 12, 42, 180, 0, 22, 27, 46, 167, 0, 19, 28, 5, 160, 0, 12, 42]
abbrev dktX1_ofMoon_1 : List UInt8 := dkwX1_ofMoon_1 ++ dktX1_ofMoon_2
def dkwX1_ofMoon_0 : List UInt8 := [27, 155, 0, 11, 27, 42, 180, 0, 120, 161, 0, 5, 2, 172, 28, 154, 0, 12, 42, 180, 0, 19, 27, 46]
abbrev dktX1_ofMoon_0 : List UInt8 := dkwX1_ofMoon_0 ++ dktX1_ofMoon_1
theorem dksX1_ofMoon_0 : cX1_ofMoon.data.toList.drop 0 = dktX1_ofMoon_0 := by decide +kernel
theorem dksX1_ofMoon_1 : cX1_ofMoon.data.toList.drop 24 = dktX1_ofMoon_1 := dk_seg dksX1_ofMoon_0 24 rfl rfl
theorem dksX1_ofMoon_2 : cX1_ofMoon.data.toList.drop 47 = dktX1_ofMoon_2 := dk_seg dksX1_ofMoon_1 23 rfl rfl
theorem dX1_ofMoon_0 : decode cX1_ofMoon 0 = .ok (.iload_n 1, 1) := dk_27 (dk_at dksX1_ofMoon_0 0 rfl rfl)
theorem dX1_ofMoon_1 : decode cX1_ofMoon 1 = .ok (.ifCond .lt 11, 3) := dk_155 0 11 (dk_at dksX1_ofMoon_0 1 rfl rfl)
theorem dX1_ofMoon_4 : decode cX1_ofMoon 4 = .ok (.iload_n 1, 1) := dk_27 (dk_at dksX1_ofMoon_0 4 rfl rfl)
theorem dX1_ofMoon_5 : decode cX1_ofMoon 5 = .ok (.aload_n 0, 1) := dk_42 (dk_at dksX1_ofMoon_0 5 rfl rfl)
theorem dX1_ofMoon_6 : decode cX1_ofMoon 6 = .ok (.getfield 120, 3) := dk_180 0 120 (dk_at dksX1_ofMoon_0 6 rfl rfl)
theorem dX1_ofMoon_9 : decode cX1_ofMoon 9 = .ok (.if_icmp .lt 5, 3) := dk_161 0 5 (dk_at dksX1_ofMoon_0 9 rfl rfl)
theorem dX1_ofMoon_12 : decode cX1_ofMoon 12 = .ok (.iconst (-1), 1) := dk_2 (dk_at dksX1_ofMoon_0 12 rfl rfl)
theorem dX1_ofMoon_13 : decode cX1_ofMoon 13 = .ok (.ireturn, 1) := dk_172 (dk_at dksX1_ofMoon_0 13 rfl rfl)
theorem dX1_ofMoon_14 : decode cX1_ofMoon 14 = .ok (.iload_n 2, 1) := dk_28 (dk_at dksX1_ofMoon_0 14 rfl rfl)
theorem dX1_ofMoon_15 : decode cX1_ofMoon 15 = .ok (.ifCond .ne 12, 3) := dk_154 0 12 (dk_at dksX1_ofMoon_0 15 rfl rfl)
theorem dX1_ofMoon_18 : decode cX1_ofMoon 18 = .ok (.aload_n 0, 1) := dk_42 (dk_at dksX1_ofMoon_0 18 rfl rfl)
theorem dX1_ofMoon_19 : decode cX1_ofMoon 19 = .ok (.getfield 19, 3) := dk_180 0 19 (dk_at dksX1_ofMoon_0 19 rfl rfl)
theorem dX1_ofMoon_22 : decode cX1_ofMoon 22 = .ok (.iload_n 1, 1) := dk_27 (dk_at dksX1_ofMoon_0 22 rfl rfl)
theorem dX1_ofMoon_23 : decode cX1_ofMoon 23 = .ok (.iaload, 1) := dk_46 (dk_at dksX1_ofMoon_0 23 rfl rfl)
theorem dX1_ofMoon_24 : decode cX1_ofMoon 24 = .ok (.goto 33, 3) := dk_167 0 33 (dk_at dksX1_ofMoon_1 0 rfl rfl)
theorem dX1_ofMoon_27 : decode cX1_ofMoon 27 = .ok (.iload_n 2, 1) := dk_28 (dk_at dksX1_ofMoon_1 3 rfl rfl)
theorem dX1_ofMoon_28 : decode cX1_ofMoon 28 = .ok (.iconst 1, 1) := dk_4 (dk_at dksX1_ofMoon_1 4 rfl rfl)
theorem dX1_ofMoon_29 : decode cX1_ofMoon 29 = .ok (.if_icmp .ne 12, 3) := dk_160 0 12 (dk_at dksX1_ofMoon_1 5 rfl rfl)
theorem dX1_ofMoon_32 : decode cX1_ofMoon 32 = .ok (.aload_n 0, 1) := dk_42 (dk_at dksX1_ofMoon_1 8 rfl rfl)
theorem dX1_ofMoon_33 : decode cX1_ofMoon 33 = .ok (.getfield 22, 3) := dk_180 0 22 (dk_at dksX1_ofMoon_1 9 rfl rfl)
theorem dX1_ofMoon_36 : decode cX1_ofMoon 36 = .ok (.iload_n 1, 1) := dk_27 (dk_at dksX1_ofMoon_1 12 rfl rfl)
theorem dX1_ofMoon_37 : decode cX1_ofMoon 37 = .ok (.iaload, 1) := dk_46 (dk_at dksX1_ofMoon_1 13 rfl rfl)
theorem dX1_ofMoon_38 : decode cX1_ofMoon 38 = .ok (.goto 19, 3) := dk_167 0 19 (dk_at dksX1_ofMoon_1 14 rfl rfl)
theorem dX1_ofMoon_41 : decode cX1_ofMoon 41 = .ok (.iload_n 2, 1) := dk_28 (dk_at dksX1_ofMoon_1 17 rfl rfl)
theorem dX1_ofMoon_42 : decode cX1_ofMoon 42 = .ok (.iconst 2, 1) := dk_5 (dk_at dksX1_ofMoon_1 18 rfl rfl)
theorem dX1_ofMoon_43 : decode cX1_ofMoon 43 = .ok (.if_icmp .ne 12, 3) := dk_160 0 12 (dk_at dksX1_ofMoon_1 19 rfl rfl)
theorem dX1_ofMoon_46 : decode cX1_ofMoon 46 = .ok (.aload_n 0, 1) := dk_42 (dk_at dksX1_ofMoon_1 22 rfl rfl)
theorem dX1_ofMoon_47 : decode cX1_ofMoon 47 = .ok (.getfield 25, 3) := dk_180 0 25 (dk_at dksX1_ofMoon_2 0 rfl rfl)
theorem dX1_ofMoon_50 : decode cX1_ofMoon 50 = .ok (.iload_n 1, 1) := dk_27 (dk_at dksX1_ofMoon_2 3 rfl rfl)
theorem dX1_ofMoon_51 : decode cX1_ofMoon 51 = .ok (.iaload, 1) := dk_46 (dk_at dksX1_ofMoon_2 4 rfl rfl)
theorem dX1_ofMoon_52 : decode cX1_ofMoon 52 = .ok (.goto 5, 3) := dk_167 0 5 (dk_at dksX1_ofMoon_2 5 rfl rfl)
theorem dX1_ofMoon_55 : decode cX1_ofMoon 55 = .ok (.bipush (-2), 2) := dk_16 254 (dk_at dksX1_ofMoon_2 8 rfl rfl)
theorem dX1_ofMoon_57 : decode cX1_ofMoon 57 = .ok (.ireturn, 1) := dk_172 (dk_at dksX1_ofMoon_2 10 rfl rfl)
abbrev cX1_phase : ByteArray := prog_16_method_20_code
def yX1_phase : MethodName := ⟨RX1, "phase", "(II)I"⟩
def dkwX1_phase_1 : List UInt8 := [180, 0, 25, 27, 46, 96, 42, 180, 0, 19, 27, 46, 112, 167, 0, 5, 16, 254, 172]
abbrev dktX1_phase_1 : List UInt8 := dkwX1_phase_1 ++ []
def dkwX1_phase_0 : List UInt8 := [27, 155, 0, 11, 27, 42, 180, 0, 120, 161, 0, 5, 2, 172, 28, 184, 0, 137, 153, 0, 21, 28, 42]
abbrev dktX1_phase_0 : List UInt8 := dkwX1_phase_0 ++ dktX1_phase_1
theorem dksX1_phase_0 : cX1_phase.data.toList.drop 0 = dktX1_phase_0 := by decide +kernel
theorem dksX1_phase_1 : cX1_phase.data.toList.drop 23 = dktX1_phase_1 := dk_seg dksX1_phase_0 23 rfl rfl
theorem dX1_phase_0 : decode cX1_phase 0 = .ok (.iload_n 1, 1) := dk_27 (dk_at dksX1_phase_0 0 rfl rfl)
theorem dX1_phase_1 : decode cX1_phase 1 = .ok (.ifCond .lt 11, 3) := dk_155 0 11 (dk_at dksX1_phase_0 1 rfl rfl)
theorem dX1_phase_4 : decode cX1_phase 4 = .ok (.iload_n 1, 1) := dk_27 (dk_at dksX1_phase_0 4 rfl rfl)
theorem dX1_phase_5 : decode cX1_phase 5 = .ok (.aload_n 0, 1) := dk_42 (dk_at dksX1_phase_0 5 rfl rfl)
theorem dX1_phase_6 : decode cX1_phase 6 = .ok (.getfield 120, 3) := dk_180 0 120 (dk_at dksX1_phase_0 6 rfl rfl)
theorem dX1_phase_9 : decode cX1_phase 9 = .ok (.if_icmp .lt 5, 3) := dk_161 0 5 (dk_at dksX1_phase_0 9 rfl rfl)
theorem dX1_phase_12 : decode cX1_phase 12 = .ok (.iconst (-1), 1) := dk_2 (dk_at dksX1_phase_0 12 rfl rfl)
theorem dX1_phase_13 : decode cX1_phase 13 = .ok (.ireturn, 1) := dk_172 (dk_at dksX1_phase_0 13 rfl rfl)
theorem dX1_phase_14 : decode cX1_phase 14 = .ok (.iload_n 2, 1) := dk_28 (dk_at dksX1_phase_0 14 rfl rfl)
theorem dX1_phase_15 : decode cX1_phase 15 = .ok (.invokestatic 137, 3) := dk_184 0 137 (dk_at dksX1_phase_0 15 rfl rfl)
theorem dX1_phase_18 : decode cX1_phase 18 = .ok (.ifCond .eq 21, 3) := dk_153 0 21 (dk_at dksX1_phase_0 18 rfl rfl)
theorem dX1_phase_21 : decode cX1_phase 21 = .ok (.iload_n 2, 1) := dk_28 (dk_at dksX1_phase_0 21 rfl rfl)
theorem dX1_phase_22 : decode cX1_phase 22 = .ok (.aload_n 0, 1) := dk_42 (dk_at dksX1_phase_0 22 rfl rfl)
theorem dX1_phase_23 : decode cX1_phase 23 = .ok (.getfield 25, 3) := dk_180 0 25 (dk_at dksX1_phase_1 0 rfl rfl)
theorem dX1_phase_26 : decode cX1_phase 26 = .ok (.iload_n 1, 1) := dk_27 (dk_at dksX1_phase_1 3 rfl rfl)
theorem dX1_phase_27 : decode cX1_phase 27 = .ok (.iaload, 1) := dk_46 (dk_at dksX1_phase_1 4 rfl rfl)
theorem dX1_phase_28 : decode cX1_phase 28 = .ok (.iadd, 1) := dk_96 (dk_at dksX1_phase_1 5 rfl rfl)
theorem dX1_phase_29 : decode cX1_phase 29 = .ok (.aload_n 0, 1) := dk_42 (dk_at dksX1_phase_1 6 rfl rfl)
theorem dX1_phase_30 : decode cX1_phase 30 = .ok (.getfield 19, 3) := dk_180 0 19 (dk_at dksX1_phase_1 7 rfl rfl)
theorem dX1_phase_33 : decode cX1_phase 33 = .ok (.iload_n 1, 1) := dk_27 (dk_at dksX1_phase_1 10 rfl rfl)
theorem dX1_phase_34 : decode cX1_phase 34 = .ok (.iaload, 1) := dk_46 (dk_at dksX1_phase_1 11 rfl rfl)
theorem dX1_phase_35 : decode cX1_phase 35 = .ok (.irem, 1) := dk_112 (dk_at dksX1_phase_1 12 rfl rfl)
theorem dX1_phase_36 : decode cX1_phase 36 = .ok (.goto 5, 3) := dk_167 0 5 (dk_at dksX1_phase_1 13 rfl rfl)
theorem dX1_phase_39 : decode cX1_phase 39 = .ok (.bipush (-2), 2) := dk_16 254 (dk_at dksX1_phase_1 16 rfl rfl)
theorem dX1_phase_41 : decode cX1_phase 41 = .ok (.ireturn, 1) := dk_172 (dk_at dksX1_phase_1 18 rfl rfl)
abbrev cX1_isHour : ByteArray := prog_16_method_12_code
def yX1_isHour : MethodName := ⟨RX1, "isHour", "(I)Z"⟩
def dkwX1_isHour_0 : List UInt8 := [26, 3, 17, 7, 207, 184, 0, 82, 172]
abbrev dktX1_isHour_0 : List UInt8 := dkwX1_isHour_0 ++ []
theorem dksX1_isHour_0 : cX1_isHour.data.toList.drop 0 = dktX1_isHour_0 := by decide +kernel
theorem dX1_isHour_0 : decode cX1_isHour 0 = .ok (.iload_n 0, 1) := dk_26 (dk_at dksX1_isHour_0 0 rfl rfl)
theorem dX1_isHour_1 : decode cX1_isHour 1 = .ok (.iconst 0, 1) := dk_3 (dk_at dksX1_isHour_0 1 rfl rfl)
theorem dX1_isHour_2 : decode cX1_isHour 2 = .ok (.sipush 1999, 3) := dk_17 7 207 (dk_at dksX1_isHour_0 2 rfl rfl)
theorem dX1_isHour_5 : decode cX1_isHour 5 = .ok (.invokestatic 82, 3) := dk_184 0 82 (dk_at dksX1_isHour_0 5 rfl rfl)
theorem dX1_isHour_8 : decode cX1_isHour 8 = .ok (.ireturn, 1) := dk_172 (dk_at dksX1_isHour_0 8 rfl rfl)
abbrev cX1_level : ByteArray := prog_16_method_22_code
def yX1_level : MethodName := ⟨RX1, "level", "(I)I"⟩
def dkwX1_level_1 : List UInt8 := [167, 0, 5, 16, 253, 172]
abbrev dktX1_level_1 : List UInt8 := dkwX1_level_1 ++ []
def dkwX1_level_0 : List UInt8 := [27, 184, 0, 137, 154, 0, 6, 16, 254, 172, 42, 182, 0, 140, 153, 0, 11, 42, 27, 182, 0, 144]
abbrev dktX1_level_0 : List UInt8 := dkwX1_level_0 ++ dktX1_level_1
theorem dksX1_level_0 : cX1_level.data.toList.drop 0 = dktX1_level_0 := by decide +kernel
theorem dksX1_level_1 : cX1_level.data.toList.drop 22 = dktX1_level_1 := dk_seg dksX1_level_0 22 rfl rfl
theorem dX1_level_0 : decode cX1_level 0 = .ok (.iload_n 1, 1) := dk_27 (dk_at dksX1_level_0 0 rfl rfl)
theorem dX1_level_1 : decode cX1_level 1 = .ok (.invokestatic 137, 3) := dk_184 0 137 (dk_at dksX1_level_0 1 rfl rfl)
theorem dX1_level_4 : decode cX1_level 4 = .ok (.ifCond .ne 6, 3) := dk_154 0 6 (dk_at dksX1_level_0 4 rfl rfl)
theorem dX1_level_7 : decode cX1_level 7 = .ok (.bipush (-2), 2) := dk_16 254 (dk_at dksX1_level_0 7 rfl rfl)
theorem dX1_level_9 : decode cX1_level 9 = .ok (.ireturn, 1) := dk_172 (dk_at dksX1_level_0 9 rfl rfl)
theorem dX1_level_10 : decode cX1_level 10 = .ok (.aload_n 0, 1) := dk_42 (dk_at dksX1_level_0 10 rfl rfl)
theorem dX1_level_11 : decode cX1_level 11 = .ok (.invokevirtual 140, 3) := dk_182 0 140 (dk_at dksX1_level_0 11 rfl rfl)
theorem dX1_level_14 : decode cX1_level 14 = .ok (.ifCond .eq 11, 3) := dk_153 0 11 (dk_at dksX1_level_0 14 rfl rfl)
theorem dX1_level_17 : decode cX1_level 17 = .ok (.aload_n 0, 1) := dk_42 (dk_at dksX1_level_0 17 rfl rfl)
theorem dX1_level_18 : decode cX1_level 18 = .ok (.iload_n 1, 1) := dk_27 (dk_at dksX1_level_0 18 rfl rfl)
theorem dX1_level_19 : decode cX1_level 19 = .ok (.invokevirtual 144, 3) := dk_182 0 144 (dk_at dksX1_level_0 19 rfl rfl)
theorem dX1_level_22 : decode cX1_level 22 = .ok (.goto 5, 3) := dk_167 0 5 (dk_at dksX1_level_1 0 rfl rfl)
theorem dX1_level_25 : decode cX1_level 25 = .ok (.bipush (-3), 2) := dk_16 253 (dk_at dksX1_level_1 3 rfl rfl)
theorem dX1_level_27 : decode cX1_level 27 = .ok (.ireturn, 1) := dk_172 (dk_at dksX1_level_1 5 rfl rfl)
abbrev cX1_isSea : ByteArray := prog_16_method_10_code
def yX1_isSea : MethodName := ⟨RX1, "isSea", "()Z"⟩
def dkwX1_isSea_0 : List UInt8 := [42, 180, 0, 86, 158, 0, 7, 4, 167, 0, 4, 3, 172]
abbrev dktX1_isSea_0 : List UInt8 := dkwX1_isSea_0 ++ []
theorem dksX1_isSea_0 : cX1_isSea.data.toList.drop 0 = dktX1_isSea_0 := by decide +kernel
theorem dX1_isSea_0 : decode cX1_isSea 0 = .ok (.aload_n 0, 1) := dk_42 (dk_at dksX1_isSea_0 0 rfl rfl)
theorem dX1_isSea_1 : decode cX1_isSea 1 = .ok (.getfield 86, 3) := dk_180 0 86 (dk_at dksX1_isSea_0 1 rfl rfl)
theorem dX1_isSea_4 : decode cX1_isSea 4 = .ok (.ifCond .le 7, 3) := dk_158 0 7 (dk_at dksX1_isSea_0 4 rfl rfl)
theorem dX1_isSea_7 : decode cX1_isSea 7 = .ok (.iconst 1, 1) := dk_4 (dk_at dksX1_isSea_0 7 rfl rfl)
theorem dX1_isSea_8 : decode cX1_isSea 8 = .ok (.goto 4, 3) := dk_167 0 4 (dk_at dksX1_isSea_0 8 rfl rfl)
theorem dX1_isSea_11 : decode cX1_isSea 11 = .ok (.iconst 0, 1) := dk_3 (dk_at dksX1_isSea_0 11 rfl rfl)
theorem dX1_isSea_12 : decode cX1_isSea 12 = .ok (.ireturn, 1) := dk_172 (dk_at dksX1_isSea_0 12 rfl rfl)
abbrev cX1_levelAt : ByteArray := prog_16_method_21_code
def yX1_levelAt : MethodName := ⟨RX1, "levelAt", "(I)I"⟩
def dkwX1_levelAt_3 : List UInt8 := [167, 255, 190, 28, 172]
abbrev dktX1_levelAt_3 : List UInt8 := dkwX1_levelAt_3 ++ []
def dkwX1_levelAt_2 : List UInt8 := [162, 0, 8, 21, 4, 167, 0, 12, 42, 180, 0, 19, 29, 46, 21, 4, 100, 104, 96, 61, 132, 3, 1]
abbrev dktX1_levelAt_2 : List UInt8 := dkwX1_levelAt_2 ++ dktX1_levelAt_3
def dkwX1_levelAt_1 : List UInt8 := [29, 46, 112, 54, 4, 28, 42, 180, 0, 22, 29, 46, 21, 4, 42, 180, 0, 19, 29, 46, 21, 4, 100]
abbrev dktX1_levelAt_1 : List UInt8 := dkwX1_levelAt_1 ++ dktX1_levelAt_2
def dkwX1_levelAt_0 : List UInt8 := [3, 61, 3, 62, 29, 42, 180, 0, 120, 162, 0, 64, 27, 42, 180, 0, 25, 29, 46, 96, 42, 180, 0, 19]
abbrev dktX1_levelAt_0 : List UInt8 := dkwX1_levelAt_0 ++ dktX1_levelAt_1
theorem dksX1_levelAt_0 : cX1_levelAt.data.toList.drop 0 = dktX1_levelAt_0 := by decide +kernel
theorem dksX1_levelAt_1 : cX1_levelAt.data.toList.drop 24 = dktX1_levelAt_1 := dk_seg dksX1_levelAt_0 24 rfl rfl
theorem dksX1_levelAt_2 : cX1_levelAt.data.toList.drop 47 = dktX1_levelAt_2 := dk_seg dksX1_levelAt_1 23 rfl rfl
theorem dksX1_levelAt_3 : cX1_levelAt.data.toList.drop 70 = dktX1_levelAt_3 := dk_seg dksX1_levelAt_2 23 rfl rfl
theorem dX1_levelAt_0 : decode cX1_levelAt 0 = .ok (.iconst 0, 1) := dk_3 (dk_at dksX1_levelAt_0 0 rfl rfl)
theorem dX1_levelAt_1 : decode cX1_levelAt 1 = .ok (.istore_n 2, 1) := dk_61 (dk_at dksX1_levelAt_0 1 rfl rfl)
theorem dX1_levelAt_2 : decode cX1_levelAt 2 = .ok (.iconst 0, 1) := dk_3 (dk_at dksX1_levelAt_0 2 rfl rfl)
theorem dX1_levelAt_3 : decode cX1_levelAt 3 = .ok (.istore_n 3, 1) := dk_62 (dk_at dksX1_levelAt_0 3 rfl rfl)
theorem dX1_levelAt_4 : decode cX1_levelAt 4 = .ok (.iload_n 3, 1) := dk_29 (dk_at dksX1_levelAt_0 4 rfl rfl)
theorem dX1_levelAt_5 : decode cX1_levelAt 5 = .ok (.aload_n 0, 1) := dk_42 (dk_at dksX1_levelAt_0 5 rfl rfl)
theorem dX1_levelAt_6 : decode cX1_levelAt 6 = .ok (.getfield 120, 3) := dk_180 0 120 (dk_at dksX1_levelAt_0 6 rfl rfl)
theorem dX1_levelAt_9 : decode cX1_levelAt 9 = .ok (.if_icmp .ge 64, 3) := dk_162 0 64 (dk_at dksX1_levelAt_0 9 rfl rfl)
theorem dX1_levelAt_12 : decode cX1_levelAt 12 = .ok (.iload_n 1, 1) := dk_27 (dk_at dksX1_levelAt_0 12 rfl rfl)
theorem dX1_levelAt_13 : decode cX1_levelAt 13 = .ok (.aload_n 0, 1) := dk_42 (dk_at dksX1_levelAt_0 13 rfl rfl)
theorem dX1_levelAt_14 : decode cX1_levelAt 14 = .ok (.getfield 25, 3) := dk_180 0 25 (dk_at dksX1_levelAt_0 14 rfl rfl)
theorem dX1_levelAt_17 : decode cX1_levelAt 17 = .ok (.iload_n 3, 1) := dk_29 (dk_at dksX1_levelAt_0 17 rfl rfl)
theorem dX1_levelAt_18 : decode cX1_levelAt 18 = .ok (.iaload, 1) := dk_46 (dk_at dksX1_levelAt_0 18 rfl rfl)
theorem dX1_levelAt_19 : decode cX1_levelAt 19 = .ok (.iadd, 1) := dk_96 (dk_at dksX1_levelAt_0 19 rfl rfl)
theorem dX1_levelAt_20 : decode cX1_levelAt 20 = .ok (.aload_n 0, 1) := dk_42 (dk_at dksX1_levelAt_0 20 rfl rfl)
theorem dX1_levelAt_21 : decode cX1_levelAt 21 = .ok (.getfield 19, 3) := dk_180 0 19 (dk_at dksX1_levelAt_0 21 rfl rfl)
theorem dX1_levelAt_24 : decode cX1_levelAt 24 = .ok (.iload_n 3, 1) := dk_29 (dk_at dksX1_levelAt_1 0 rfl rfl)
theorem dX1_levelAt_25 : decode cX1_levelAt 25 = .ok (.iaload, 1) := dk_46 (dk_at dksX1_levelAt_1 1 rfl rfl)
theorem dX1_levelAt_26 : decode cX1_levelAt 26 = .ok (.irem, 1) := dk_112 (dk_at dksX1_levelAt_1 2 rfl rfl)
theorem dX1_levelAt_27 : decode cX1_levelAt 27 = .ok (.istore 4, 2) := dk_54 4 (dk_at dksX1_levelAt_1 3 rfl rfl)
theorem dX1_levelAt_29 : decode cX1_levelAt 29 = .ok (.iload_n 2, 1) := dk_28 (dk_at dksX1_levelAt_1 5 rfl rfl)
theorem dX1_levelAt_30 : decode cX1_levelAt 30 = .ok (.aload_n 0, 1) := dk_42 (dk_at dksX1_levelAt_1 6 rfl rfl)
theorem dX1_levelAt_31 : decode cX1_levelAt 31 = .ok (.getfield 22, 3) := dk_180 0 22 (dk_at dksX1_levelAt_1 7 rfl rfl)
theorem dX1_levelAt_34 : decode cX1_levelAt 34 = .ok (.iload_n 3, 1) := dk_29 (dk_at dksX1_levelAt_1 10 rfl rfl)
theorem dX1_levelAt_35 : decode cX1_levelAt 35 = .ok (.iaload, 1) := dk_46 (dk_at dksX1_levelAt_1 11 rfl rfl)
theorem dX1_levelAt_36 : decode cX1_levelAt 36 = .ok (.iload 4, 2) := dk_21 4 (dk_at dksX1_levelAt_1 12 rfl rfl)
theorem dX1_levelAt_38 : decode cX1_levelAt 38 = .ok (.aload_n 0, 1) := dk_42 (dk_at dksX1_levelAt_1 14 rfl rfl)
theorem dX1_levelAt_39 : decode cX1_levelAt 39 = .ok (.getfield 19, 3) := dk_180 0 19 (dk_at dksX1_levelAt_1 15 rfl rfl)
theorem dX1_levelAt_42 : decode cX1_levelAt 42 = .ok (.iload_n 3, 1) := dk_29 (dk_at dksX1_levelAt_1 18 rfl rfl)
theorem dX1_levelAt_43 : decode cX1_levelAt 43 = .ok (.iaload, 1) := dk_46 (dk_at dksX1_levelAt_1 19 rfl rfl)
theorem dX1_levelAt_44 : decode cX1_levelAt 44 = .ok (.iload 4, 2) := dk_21 4 (dk_at dksX1_levelAt_1 20 rfl rfl)
theorem dX1_levelAt_46 : decode cX1_levelAt 46 = .ok (.isub, 1) := dk_100 (dk_at dksX1_levelAt_1 22 rfl rfl)
theorem dX1_levelAt_47 : decode cX1_levelAt 47 = .ok (.if_icmp .ge 8, 3) := dk_162 0 8 (dk_at dksX1_levelAt_2 0 rfl rfl)
theorem dX1_levelAt_50 : decode cX1_levelAt 50 = .ok (.iload 4, 2) := dk_21 4 (dk_at dksX1_levelAt_2 3 rfl rfl)
theorem dX1_levelAt_52 : decode cX1_levelAt 52 = .ok (.goto 12, 3) := dk_167 0 12 (dk_at dksX1_levelAt_2 5 rfl rfl)
theorem dX1_levelAt_55 : decode cX1_levelAt 55 = .ok (.aload_n 0, 1) := dk_42 (dk_at dksX1_levelAt_2 8 rfl rfl)
theorem dX1_levelAt_56 : decode cX1_levelAt 56 = .ok (.getfield 19, 3) := dk_180 0 19 (dk_at dksX1_levelAt_2 9 rfl rfl)
theorem dX1_levelAt_59 : decode cX1_levelAt 59 = .ok (.iload_n 3, 1) := dk_29 (dk_at dksX1_levelAt_2 12 rfl rfl)
theorem dX1_levelAt_60 : decode cX1_levelAt 60 = .ok (.iaload, 1) := dk_46 (dk_at dksX1_levelAt_2 13 rfl rfl)
theorem dX1_levelAt_61 : decode cX1_levelAt 61 = .ok (.iload 4, 2) := dk_21 4 (dk_at dksX1_levelAt_2 14 rfl rfl)
theorem dX1_levelAt_63 : decode cX1_levelAt 63 = .ok (.isub, 1) := dk_100 (dk_at dksX1_levelAt_2 16 rfl rfl)
theorem dX1_levelAt_64 : decode cX1_levelAt 64 = .ok (.imul, 1) := dk_104 (dk_at dksX1_levelAt_2 17 rfl rfl)
theorem dX1_levelAt_65 : decode cX1_levelAt 65 = .ok (.iadd, 1) := dk_96 (dk_at dksX1_levelAt_2 18 rfl rfl)
theorem dX1_levelAt_66 : decode cX1_levelAt 66 = .ok (.istore_n 2, 1) := dk_61 (dk_at dksX1_levelAt_2 19 rfl rfl)
theorem dX1_levelAt_67 : decode cX1_levelAt 67 = .ok (.iinc 3 1, 3) := dk_132 3 1 (dk_at dksX1_levelAt_2 20 rfl rfl)
theorem dX1_levelAt_70 : decode cX1_levelAt 70 = .ok (.goto (-66), 3) := dk_167 255 190 (dk_at dksX1_levelAt_3 0 rfl rfl)
theorem dX1_levelAt_73 : decode cX1_levelAt 73 = .ok (.iload_n 2, 1) := dk_28 (dk_at dksX1_levelAt_3 3 rfl rfl)
theorem dX1_levelAt_74 : decode cX1_levelAt 74 = .ok (.ireturn, 1) := dk_172 (dk_at dksX1_levelAt_3 4 rfl rfl)
abbrev cX1_again : ByteArray := prog_16_method_24_code
def yX1_again : MethodName := ⟨RX1, "again", "()I"⟩
def dkwX1_again_3 : List UInt8 := [132, 2, 1, 167, 255, 231, 27, 172]
abbrev dktX1_again_3 : List UInt8 := dkwX1_again_3 ++ []
def dkwX1_again_2 : List UInt8 := [4, 61, 28, 27, 162, 0, 26, 27, 28, 112, 154, 0, 14, 42, 28, 27, 182, 0, 147, 153, 0, 5, 28, 172]
abbrev dktX1_again_2 : List UInt8 := dkwX1_again_2 ++ dktX1_again_3
def dkwX1_again_1 : List UInt8 := [27, 42, 180, 0, 19, 28, 46, 112, 153, 0, 10, 27, 29, 96, 60, 167, 255, 241, 132, 2, 1, 167, 255, 225]
abbrev dktX1_again_1 : List UInt8 := dkwX1_again_1 ++ dktX1_again_2
def dkwX1_again_0 : List UInt8 := [42, 182, 0, 140, 154, 0, 6, 16, 253, 172, 4, 60, 3, 61, 28, 42, 180, 0, 120, 162, 0, 29, 27, 62]
abbrev dktX1_again_0 : List UInt8 := dkwX1_again_0 ++ dktX1_again_1
theorem dksX1_again_0 : cX1_again.data.toList.drop 0 = dktX1_again_0 := by decide +kernel
theorem dksX1_again_1 : cX1_again.data.toList.drop 24 = dktX1_again_1 := dk_seg dksX1_again_0 24 rfl rfl
theorem dksX1_again_2 : cX1_again.data.toList.drop 48 = dktX1_again_2 := dk_seg dksX1_again_1 24 rfl rfl
theorem dksX1_again_3 : cX1_again.data.toList.drop 72 = dktX1_again_3 := dk_seg dksX1_again_2 24 rfl rfl
theorem dX1_again_0 : decode cX1_again 0 = .ok (.aload_n 0, 1) := dk_42 (dk_at dksX1_again_0 0 rfl rfl)
theorem dX1_again_1 : decode cX1_again 1 = .ok (.invokevirtual 140, 3) := dk_182 0 140 (dk_at dksX1_again_0 1 rfl rfl)
theorem dX1_again_4 : decode cX1_again 4 = .ok (.ifCond .ne 6, 3) := dk_154 0 6 (dk_at dksX1_again_0 4 rfl rfl)
theorem dX1_again_7 : decode cX1_again 7 = .ok (.bipush (-3), 2) := dk_16 253 (dk_at dksX1_again_0 7 rfl rfl)
theorem dX1_again_9 : decode cX1_again 9 = .ok (.ireturn, 1) := dk_172 (dk_at dksX1_again_0 9 rfl rfl)
theorem dX1_again_10 : decode cX1_again 10 = .ok (.iconst 1, 1) := dk_4 (dk_at dksX1_again_0 10 rfl rfl)
theorem dX1_again_11 : decode cX1_again 11 = .ok (.istore_n 1, 1) := dk_60 (dk_at dksX1_again_0 11 rfl rfl)
theorem dX1_again_12 : decode cX1_again 12 = .ok (.iconst 0, 1) := dk_3 (dk_at dksX1_again_0 12 rfl rfl)
theorem dX1_again_13 : decode cX1_again 13 = .ok (.istore_n 2, 1) := dk_61 (dk_at dksX1_again_0 13 rfl rfl)
theorem dX1_again_14 : decode cX1_again 14 = .ok (.iload_n 2, 1) := dk_28 (dk_at dksX1_again_0 14 rfl rfl)
theorem dX1_again_15 : decode cX1_again 15 = .ok (.aload_n 0, 1) := dk_42 (dk_at dksX1_again_0 15 rfl rfl)
theorem dX1_again_16 : decode cX1_again 16 = .ok (.getfield 120, 3) := dk_180 0 120 (dk_at dksX1_again_0 16 rfl rfl)
theorem dX1_again_19 : decode cX1_again 19 = .ok (.if_icmp .ge 29, 3) := dk_162 0 29 (dk_at dksX1_again_0 19 rfl rfl)
theorem dX1_again_22 : decode cX1_again 22 = .ok (.iload_n 1, 1) := dk_27 (dk_at dksX1_again_0 22 rfl rfl)
theorem dX1_again_23 : decode cX1_again 23 = .ok (.istore_n 3, 1) := dk_62 (dk_at dksX1_again_0 23 rfl rfl)
theorem dX1_again_24 : decode cX1_again 24 = .ok (.iload_n 1, 1) := dk_27 (dk_at dksX1_again_1 0 rfl rfl)
theorem dX1_again_25 : decode cX1_again 25 = .ok (.aload_n 0, 1) := dk_42 (dk_at dksX1_again_1 1 rfl rfl)
theorem dX1_again_26 : decode cX1_again 26 = .ok (.getfield 19, 3) := dk_180 0 19 (dk_at dksX1_again_1 2 rfl rfl)
theorem dX1_again_29 : decode cX1_again 29 = .ok (.iload_n 2, 1) := dk_28 (dk_at dksX1_again_1 5 rfl rfl)
theorem dX1_again_30 : decode cX1_again 30 = .ok (.iaload, 1) := dk_46 (dk_at dksX1_again_1 6 rfl rfl)
theorem dX1_again_31 : decode cX1_again 31 = .ok (.irem, 1) := dk_112 (dk_at dksX1_again_1 7 rfl rfl)
theorem dX1_again_32 : decode cX1_again 32 = .ok (.ifCond .eq 10, 3) := dk_153 0 10 (dk_at dksX1_again_1 8 rfl rfl)
theorem dX1_again_35 : decode cX1_again 35 = .ok (.iload_n 1, 1) := dk_27 (dk_at dksX1_again_1 11 rfl rfl)
theorem dX1_again_36 : decode cX1_again 36 = .ok (.iload_n 3, 1) := dk_29 (dk_at dksX1_again_1 12 rfl rfl)
theorem dX1_again_37 : decode cX1_again 37 = .ok (.iadd, 1) := dk_96 (dk_at dksX1_again_1 13 rfl rfl)
theorem dX1_again_38 : decode cX1_again 38 = .ok (.istore_n 1, 1) := dk_60 (dk_at dksX1_again_1 14 rfl rfl)
theorem dX1_again_39 : decode cX1_again 39 = .ok (.goto (-15), 3) := dk_167 255 241 (dk_at dksX1_again_1 15 rfl rfl)
theorem dX1_again_42 : decode cX1_again 42 = .ok (.iinc 2 1, 3) := dk_132 2 1 (dk_at dksX1_again_1 18 rfl rfl)
theorem dX1_again_45 : decode cX1_again 45 = .ok (.goto (-31), 3) := dk_167 255 225 (dk_at dksX1_again_1 21 rfl rfl)
theorem dX1_again_48 : decode cX1_again 48 = .ok (.iconst 1, 1) := dk_4 (dk_at dksX1_again_2 0 rfl rfl)
theorem dX1_again_49 : decode cX1_again 49 = .ok (.istore_n 2, 1) := dk_61 (dk_at dksX1_again_2 1 rfl rfl)
theorem dX1_again_50 : decode cX1_again 50 = .ok (.iload_n 2, 1) := dk_28 (dk_at dksX1_again_2 2 rfl rfl)
theorem dX1_again_51 : decode cX1_again 51 = .ok (.iload_n 1, 1) := dk_27 (dk_at dksX1_again_2 3 rfl rfl)
theorem dX1_again_52 : decode cX1_again 52 = .ok (.if_icmp .ge 26, 3) := dk_162 0 26 (dk_at dksX1_again_2 4 rfl rfl)
theorem dX1_again_55 : decode cX1_again 55 = .ok (.iload_n 1, 1) := dk_27 (dk_at dksX1_again_2 7 rfl rfl)
theorem dX1_again_56 : decode cX1_again 56 = .ok (.iload_n 2, 1) := dk_28 (dk_at dksX1_again_2 8 rfl rfl)
theorem dX1_again_57 : decode cX1_again 57 = .ok (.irem, 1) := dk_112 (dk_at dksX1_again_2 9 rfl rfl)
theorem dX1_again_58 : decode cX1_again 58 = .ok (.ifCond .ne 14, 3) := dk_154 0 14 (dk_at dksX1_again_2 10 rfl rfl)
theorem dX1_again_61 : decode cX1_again 61 = .ok (.aload_n 0, 1) := dk_42 (dk_at dksX1_again_2 13 rfl rfl)
theorem dX1_again_62 : decode cX1_again 62 = .ok (.iload_n 2, 1) := dk_28 (dk_at dksX1_again_2 14 rfl rfl)
theorem dX1_again_63 : decode cX1_again 63 = .ok (.iload_n 1, 1) := dk_27 (dk_at dksX1_again_2 15 rfl rfl)
theorem dX1_again_64 : decode cX1_again 64 = .ok (.invokevirtual 147, 3) := dk_182 0 147 (dk_at dksX1_again_2 16 rfl rfl)
theorem dX1_again_67 : decode cX1_again 67 = .ok (.ifCond .eq 5, 3) := dk_153 0 5 (dk_at dksX1_again_2 19 rfl rfl)
theorem dX1_again_70 : decode cX1_again 70 = .ok (.iload_n 2, 1) := dk_28 (dk_at dksX1_again_2 22 rfl rfl)
theorem dX1_again_71 : decode cX1_again 71 = .ok (.ireturn, 1) := dk_172 (dk_at dksX1_again_2 23 rfl rfl)
theorem dX1_again_72 : decode cX1_again 72 = .ok (.iinc 2 1, 3) := dk_132 2 1 (dk_at dksX1_again_3 0 rfl rfl)
theorem dX1_again_75 : decode cX1_again 75 = .ok (.goto (-25), 3) := dk_167 255 231 (dk_at dksX1_again_3 3 rfl rfl)
theorem dX1_again_78 : decode cX1_again 78 = .ok (.iload_n 1, 1) := dk_27 (dk_at dksX1_again_3 6 rfl rfl)
theorem dX1_again_79 : decode cX1_again 79 = .ok (.ireturn, 1) := dk_172 (dk_at dksX1_again_3 7 rfl rfl)
abbrev cX1_comesAgain : ByteArray := prog_16_method_23_code
def yX1_comesAgain : MethodName := ⟨RX1, "comesAgain", "(II)Z"⟩
def dkwX1_comesAgain_1 : List UInt8 := [132, 3, 1, 167, 255, 231, 4, 172]
abbrev dktX1_comesAgain_1 : List UInt8 := dkwX1_comesAgain_1 ++ []
def dkwX1_comesAgain_0 : List UInt8 := [3, 62, 29, 28, 162, 0, 26, 42, 29, 182, 0, 144, 42, 29, 27, 96, 182, 0, 144, 159, 0, 5, 3, 172]
abbrev dktX1_comesAgain_0 : List UInt8 := dkwX1_comesAgain_0 ++ dktX1_comesAgain_1
theorem dksX1_comesAgain_0 : cX1_comesAgain.data.toList.drop 0 = dktX1_comesAgain_0 := by decide +kernel
theorem dksX1_comesAgain_1 : cX1_comesAgain.data.toList.drop 24 = dktX1_comesAgain_1 := dk_seg dksX1_comesAgain_0 24 rfl rfl
theorem dX1_comesAgain_0 : decode cX1_comesAgain 0 = .ok (.iconst 0, 1) := dk_3 (dk_at dksX1_comesAgain_0 0 rfl rfl)
theorem dX1_comesAgain_1 : decode cX1_comesAgain 1 = .ok (.istore_n 3, 1) := dk_62 (dk_at dksX1_comesAgain_0 1 rfl rfl)
theorem dX1_comesAgain_2 : decode cX1_comesAgain 2 = .ok (.iload_n 3, 1) := dk_29 (dk_at dksX1_comesAgain_0 2 rfl rfl)
theorem dX1_comesAgain_3 : decode cX1_comesAgain 3 = .ok (.iload_n 2, 1) := dk_28 (dk_at dksX1_comesAgain_0 3 rfl rfl)
theorem dX1_comesAgain_4 : decode cX1_comesAgain 4 = .ok (.if_icmp .ge 26, 3) := dk_162 0 26 (dk_at dksX1_comesAgain_0 4 rfl rfl)
theorem dX1_comesAgain_7 : decode cX1_comesAgain 7 = .ok (.aload_n 0, 1) := dk_42 (dk_at dksX1_comesAgain_0 7 rfl rfl)
theorem dX1_comesAgain_8 : decode cX1_comesAgain 8 = .ok (.iload_n 3, 1) := dk_29 (dk_at dksX1_comesAgain_0 8 rfl rfl)
theorem dX1_comesAgain_9 : decode cX1_comesAgain 9 = .ok (.invokevirtual 144, 3) := dk_182 0 144 (dk_at dksX1_comesAgain_0 9 rfl rfl)
theorem dX1_comesAgain_12 : decode cX1_comesAgain 12 = .ok (.aload_n 0, 1) := dk_42 (dk_at dksX1_comesAgain_0 12 rfl rfl)
theorem dX1_comesAgain_13 : decode cX1_comesAgain 13 = .ok (.iload_n 3, 1) := dk_29 (dk_at dksX1_comesAgain_0 13 rfl rfl)
theorem dX1_comesAgain_14 : decode cX1_comesAgain 14 = .ok (.iload_n 1, 1) := dk_27 (dk_at dksX1_comesAgain_0 14 rfl rfl)
theorem dX1_comesAgain_15 : decode cX1_comesAgain 15 = .ok (.iadd, 1) := dk_96 (dk_at dksX1_comesAgain_0 15 rfl rfl)
theorem dX1_comesAgain_16 : decode cX1_comesAgain 16 = .ok (.invokevirtual 144, 3) := dk_182 0 144 (dk_at dksX1_comesAgain_0 16 rfl rfl)
theorem dX1_comesAgain_19 : decode cX1_comesAgain 19 = .ok (.if_icmp .eq 5, 3) := dk_159 0 5 (dk_at dksX1_comesAgain_0 19 rfl rfl)
theorem dX1_comesAgain_22 : decode cX1_comesAgain 22 = .ok (.iconst 0, 1) := dk_3 (dk_at dksX1_comesAgain_0 22 rfl rfl)
theorem dX1_comesAgain_23 : decode cX1_comesAgain 23 = .ok (.ireturn, 1) := dk_172 (dk_at dksX1_comesAgain_0 23 rfl rfl)
theorem dX1_comesAgain_24 : decode cX1_comesAgain 24 = .ok (.iinc 3 1, 3) := dk_132 3 1 (dk_at dksX1_comesAgain_1 0 rfl rfl)
theorem dX1_comesAgain_27 : decode cX1_comesAgain 27 = .ok (.goto (-25), 3) := dk_167 255 231 (dk_at dksX1_comesAgain_1 3 rfl rfl)
theorem dX1_comesAgain_30 : decode cX1_comesAgain 30 = .ok (.iconst 1, 1) := dk_4 (dk_at dksX1_comesAgain_1 6 rfl rfl)
theorem dX1_comesAgain_31 : decode cX1_comesAgain 31 = .ok (.ireturn, 1) := dk_172 (dk_at dksX1_comesAgain_1 7 rfl rfl)
abbrev cX1_road : ByteArray := prog_16_method_26_code
def yX1_road : MethodName := ⟨RX1, "road", "(IIIII)I"⟩
def dkwX1_road_6 : List UInt8 := [180, 0, 123, 4, 100, 172]
abbrev dktX1_road_6 : List UInt8 := dkwX1_road_6 ++ []
def dkwX1_road_5 : List UInt8 := [21, 5, 79, 42, 180, 0, 52, 42, 180, 0, 123, 3, 79, 42, 89, 180, 0, 123, 4, 96, 181, 0, 123, 42]
abbrev dktX1_road_5 : List UInt8 := dkwX1_road_5 ++ dktX1_road_6
def dkwX1_road_4 : List UInt8 := [180, 0, 123, 29, 79, 42, 180, 0, 46, 42, 180, 0, 123, 21, 4, 79, 42, 180, 0, 49, 42, 180, 0, 123]
abbrev dktX1_road_4 : List UInt8 := dkwX1_road_4 ++ dktX1_road_5
def dkwX1_road_3 : List UInt8 := [180, 0, 37, 42, 180, 0, 123, 27, 79, 42, 180, 0, 40, 42, 180, 0, 123, 28, 79, 42, 180, 0, 43, 42]
abbrev dktX1_road_3 : List UInt8 := dkwX1_road_3 ++ dktX1_road_4
def dkwX1_road_2 : List UInt8 := [16, 6, 184, 0, 82, 154, 0, 6, 16, 254, 172, 42, 180, 0, 123, 16, 10, 160, 0, 6, 16, 252, 172, 42]
abbrev dktX1_road_2 : List UInt8 := dkwX1_road_2 ++ dktX1_road_3
def dkwX1_road_1 : List UInt8 := [3, 5, 184, 0, 82, 153, 0, 26, 21, 4, 3, 17, 1, 144, 184, 0, 82, 153, 0, 14, 21, 5, 4]
abbrev dktX1_road_1 : List UInt8 := dkwX1_road_1 ++ dktX1_road_2
def dkwX1_road_0 : List UInt8 := [42, 28, 182, 0, 150, 153, 0, 16, 42, 29, 182, 0, 150, 153, 0, 8, 28, 29, 160, 0, 5, 2, 172, 27]
abbrev dktX1_road_0 : List UInt8 := dkwX1_road_0 ++ dktX1_road_1
theorem dksX1_road_0 : cX1_road.data.toList.drop 0 = dktX1_road_0 := by decide +kernel
theorem dksX1_road_1 : cX1_road.data.toList.drop 24 = dktX1_road_1 := dk_seg dksX1_road_0 24 rfl rfl
theorem dksX1_road_2 : cX1_road.data.toList.drop 47 = dktX1_road_2 := dk_seg dksX1_road_1 23 rfl rfl
theorem dksX1_road_3 : cX1_road.data.toList.drop 71 = dktX1_road_3 := dk_seg dksX1_road_2 24 rfl rfl
theorem dksX1_road_4 : cX1_road.data.toList.drop 95 = dktX1_road_4 := dk_seg dksX1_road_3 24 rfl rfl
theorem dksX1_road_5 : cX1_road.data.toList.drop 119 = dktX1_road_5 := dk_seg dksX1_road_4 24 rfl rfl
theorem dksX1_road_6 : cX1_road.data.toList.drop 143 = dktX1_road_6 := dk_seg dksX1_road_5 24 rfl rfl
theorem dX1_road_0 : decode cX1_road 0 = .ok (.aload_n 0, 1) := dk_42 (dk_at dksX1_road_0 0 rfl rfl)
theorem dX1_road_1 : decode cX1_road 1 = .ok (.iload_n 2, 1) := dk_28 (dk_at dksX1_road_0 1 rfl rfl)
theorem dX1_road_2 : decode cX1_road 2 = .ok (.invokevirtual 150, 3) := dk_182 0 150 (dk_at dksX1_road_0 2 rfl rfl)
theorem dX1_road_5 : decode cX1_road 5 = .ok (.ifCond .eq 16, 3) := dk_153 0 16 (dk_at dksX1_road_0 5 rfl rfl)
theorem dX1_road_8 : decode cX1_road 8 = .ok (.aload_n 0, 1) := dk_42 (dk_at dksX1_road_0 8 rfl rfl)
theorem dX1_road_9 : decode cX1_road 9 = .ok (.iload_n 3, 1) := dk_29 (dk_at dksX1_road_0 9 rfl rfl)
theorem dX1_road_10 : decode cX1_road 10 = .ok (.invokevirtual 150, 3) := dk_182 0 150 (dk_at dksX1_road_0 10 rfl rfl)
theorem dX1_road_13 : decode cX1_road 13 = .ok (.ifCond .eq 8, 3) := dk_153 0 8 (dk_at dksX1_road_0 13 rfl rfl)
theorem dX1_road_16 : decode cX1_road 16 = .ok (.iload_n 2, 1) := dk_28 (dk_at dksX1_road_0 16 rfl rfl)
theorem dX1_road_17 : decode cX1_road 17 = .ok (.iload_n 3, 1) := dk_29 (dk_at dksX1_road_0 17 rfl rfl)
theorem dX1_road_18 : decode cX1_road 18 = .ok (.if_icmp .ne 5, 3) := dk_160 0 5 (dk_at dksX1_road_0 18 rfl rfl)
theorem dX1_road_21 : decode cX1_road 21 = .ok (.iconst (-1), 1) := dk_2 (dk_at dksX1_road_0 21 rfl rfl)
theorem dX1_road_22 : decode cX1_road 22 = .ok (.ireturn, 1) := dk_172 (dk_at dksX1_road_0 22 rfl rfl)
theorem dX1_road_23 : decode cX1_road 23 = .ok (.iload_n 1, 1) := dk_27 (dk_at dksX1_road_0 23 rfl rfl)
theorem dX1_road_24 : decode cX1_road 24 = .ok (.iconst 0, 1) := dk_3 (dk_at dksX1_road_1 0 rfl rfl)
theorem dX1_road_25 : decode cX1_road 25 = .ok (.iconst 2, 1) := dk_5 (dk_at dksX1_road_1 1 rfl rfl)
theorem dX1_road_26 : decode cX1_road 26 = .ok (.invokestatic 82, 3) := dk_184 0 82 (dk_at dksX1_road_1 2 rfl rfl)
theorem dX1_road_29 : decode cX1_road 29 = .ok (.ifCond .eq 26, 3) := dk_153 0 26 (dk_at dksX1_road_1 5 rfl rfl)
theorem dX1_road_32 : decode cX1_road 32 = .ok (.iload 4, 2) := dk_21 4 (dk_at dksX1_road_1 8 rfl rfl)
theorem dX1_road_34 : decode cX1_road 34 = .ok (.iconst 0, 1) := dk_3 (dk_at dksX1_road_1 10 rfl rfl)
theorem dX1_road_35 : decode cX1_road 35 = .ok (.sipush 400, 3) := dk_17 1 144 (dk_at dksX1_road_1 11 rfl rfl)
theorem dX1_road_38 : decode cX1_road 38 = .ok (.invokestatic 82, 3) := dk_184 0 82 (dk_at dksX1_road_1 14 rfl rfl)
theorem dX1_road_41 : decode cX1_road 41 = .ok (.ifCond .eq 14, 3) := dk_153 0 14 (dk_at dksX1_road_1 17 rfl rfl)
theorem dX1_road_44 : decode cX1_road 44 = .ok (.iload 5, 2) := dk_21 5 (dk_at dksX1_road_1 20 rfl rfl)
theorem dX1_road_46 : decode cX1_road 46 = .ok (.iconst 1, 1) := dk_4 (dk_at dksX1_road_1 22 rfl rfl)
theorem dX1_road_47 : decode cX1_road 47 = .ok (.bipush 6, 2) := dk_16 6 (dk_at dksX1_road_2 0 rfl rfl)
theorem dX1_road_49 : decode cX1_road 49 = .ok (.invokestatic 82, 3) := dk_184 0 82 (dk_at dksX1_road_2 2 rfl rfl)
theorem dX1_road_52 : decode cX1_road 52 = .ok (.ifCond .ne 6, 3) := dk_154 0 6 (dk_at dksX1_road_2 5 rfl rfl)
theorem dX1_road_55 : decode cX1_road 55 = .ok (.bipush (-2), 2) := dk_16 254 (dk_at dksX1_road_2 8 rfl rfl)
theorem dX1_road_57 : decode cX1_road 57 = .ok (.ireturn, 1) := dk_172 (dk_at dksX1_road_2 10 rfl rfl)
theorem dX1_road_58 : decode cX1_road 58 = .ok (.aload_n 0, 1) := dk_42 (dk_at dksX1_road_2 11 rfl rfl)
theorem dX1_road_59 : decode cX1_road 59 = .ok (.getfield 123, 3) := dk_180 0 123 (dk_at dksX1_road_2 12 rfl rfl)
theorem dX1_road_62 : decode cX1_road 62 = .ok (.bipush 10, 2) := dk_16 10 (dk_at dksX1_road_2 15 rfl rfl)
theorem dX1_road_64 : decode cX1_road 64 = .ok (.if_icmp .ne 6, 3) := dk_160 0 6 (dk_at dksX1_road_2 17 rfl rfl)
theorem dX1_road_67 : decode cX1_road 67 = .ok (.bipush (-4), 2) := dk_16 252 (dk_at dksX1_road_2 20 rfl rfl)
theorem dX1_road_69 : decode cX1_road 69 = .ok (.ireturn, 1) := dk_172 (dk_at dksX1_road_2 22 rfl rfl)
theorem dX1_road_70 : decode cX1_road 70 = .ok (.aload_n 0, 1) := dk_42 (dk_at dksX1_road_2 23 rfl rfl)
theorem dX1_road_71 : decode cX1_road 71 = .ok (.getfield 37, 3) := dk_180 0 37 (dk_at dksX1_road_3 0 rfl rfl)
theorem dX1_road_74 : decode cX1_road 74 = .ok (.aload_n 0, 1) := dk_42 (dk_at dksX1_road_3 3 rfl rfl)
theorem dX1_road_75 : decode cX1_road 75 = .ok (.getfield 123, 3) := dk_180 0 123 (dk_at dksX1_road_3 4 rfl rfl)
theorem dX1_road_78 : decode cX1_road 78 = .ok (.iload_n 1, 1) := dk_27 (dk_at dksX1_road_3 7 rfl rfl)
theorem dX1_road_79 : decode cX1_road 79 = .ok (.iastore, 1) := dk_79 (dk_at dksX1_road_3 8 rfl rfl)
theorem dX1_road_80 : decode cX1_road 80 = .ok (.aload_n 0, 1) := dk_42 (dk_at dksX1_road_3 9 rfl rfl)
theorem dX1_road_81 : decode cX1_road 81 = .ok (.getfield 40, 3) := dk_180 0 40 (dk_at dksX1_road_3 10 rfl rfl)
theorem dX1_road_84 : decode cX1_road 84 = .ok (.aload_n 0, 1) := dk_42 (dk_at dksX1_road_3 13 rfl rfl)
theorem dX1_road_85 : decode cX1_road 85 = .ok (.getfield 123, 3) := dk_180 0 123 (dk_at dksX1_road_3 14 rfl rfl)
theorem dX1_road_88 : decode cX1_road 88 = .ok (.iload_n 2, 1) := dk_28 (dk_at dksX1_road_3 17 rfl rfl)
theorem dX1_road_89 : decode cX1_road 89 = .ok (.iastore, 1) := dk_79 (dk_at dksX1_road_3 18 rfl rfl)
theorem dX1_road_90 : decode cX1_road 90 = .ok (.aload_n 0, 1) := dk_42 (dk_at dksX1_road_3 19 rfl rfl)
theorem dX1_road_91 : decode cX1_road 91 = .ok (.getfield 43, 3) := dk_180 0 43 (dk_at dksX1_road_3 20 rfl rfl)
theorem dX1_road_94 : decode cX1_road 94 = .ok (.aload_n 0, 1) := dk_42 (dk_at dksX1_road_3 23 rfl rfl)
theorem dX1_road_95 : decode cX1_road 95 = .ok (.getfield 123, 3) := dk_180 0 123 (dk_at dksX1_road_4 0 rfl rfl)
theorem dX1_road_98 : decode cX1_road 98 = .ok (.iload_n 3, 1) := dk_29 (dk_at dksX1_road_4 3 rfl rfl)
theorem dX1_road_99 : decode cX1_road 99 = .ok (.iastore, 1) := dk_79 (dk_at dksX1_road_4 4 rfl rfl)
theorem dX1_road_100 : decode cX1_road 100 = .ok (.aload_n 0, 1) := dk_42 (dk_at dksX1_road_4 5 rfl rfl)
theorem dX1_road_101 : decode cX1_road 101 = .ok (.getfield 46, 3) := dk_180 0 46 (dk_at dksX1_road_4 6 rfl rfl)
theorem dX1_road_104 : decode cX1_road 104 = .ok (.aload_n 0, 1) := dk_42 (dk_at dksX1_road_4 9 rfl rfl)
theorem dX1_road_105 : decode cX1_road 105 = .ok (.getfield 123, 3) := dk_180 0 123 (dk_at dksX1_road_4 10 rfl rfl)
theorem dX1_road_108 : decode cX1_road 108 = .ok (.iload 4, 2) := dk_21 4 (dk_at dksX1_road_4 13 rfl rfl)
theorem dX1_road_110 : decode cX1_road 110 = .ok (.iastore, 1) := dk_79 (dk_at dksX1_road_4 15 rfl rfl)
theorem dX1_road_111 : decode cX1_road 111 = .ok (.aload_n 0, 1) := dk_42 (dk_at dksX1_road_4 16 rfl rfl)
theorem dX1_road_112 : decode cX1_road 112 = .ok (.getfield 49, 3) := dk_180 0 49 (dk_at dksX1_road_4 17 rfl rfl)
theorem dX1_road_115 : decode cX1_road 115 = .ok (.aload_n 0, 1) := dk_42 (dk_at dksX1_road_4 20 rfl rfl)
theorem dX1_road_116 : decode cX1_road 116 = .ok (.getfield 123, 3) := dk_180 0 123 (dk_at dksX1_road_4 21 rfl rfl)
theorem dX1_road_119 : decode cX1_road 119 = .ok (.iload 5, 2) := dk_21 5 (dk_at dksX1_road_5 0 rfl rfl)
theorem dX1_road_121 : decode cX1_road 121 = .ok (.iastore, 1) := dk_79 (dk_at dksX1_road_5 2 rfl rfl)
theorem dX1_road_122 : decode cX1_road 122 = .ok (.aload_n 0, 1) := dk_42 (dk_at dksX1_road_5 3 rfl rfl)
theorem dX1_road_123 : decode cX1_road 123 = .ok (.getfield 52, 3) := dk_180 0 52 (dk_at dksX1_road_5 4 rfl rfl)
theorem dX1_road_126 : decode cX1_road 126 = .ok (.aload_n 0, 1) := dk_42 (dk_at dksX1_road_5 7 rfl rfl)
theorem dX1_road_127 : decode cX1_road 127 = .ok (.getfield 123, 3) := dk_180 0 123 (dk_at dksX1_road_5 8 rfl rfl)
theorem dX1_road_130 : decode cX1_road 130 = .ok (.iconst 0, 1) := dk_3 (dk_at dksX1_road_5 11 rfl rfl)
theorem dX1_road_131 : decode cX1_road 131 = .ok (.iastore, 1) := dk_79 (dk_at dksX1_road_5 12 rfl rfl)
theorem dX1_road_132 : decode cX1_road 132 = .ok (.aload_n 0, 1) := dk_42 (dk_at dksX1_road_5 13 rfl rfl)
theorem dX1_road_133 : decode cX1_road 133 = .ok (.dup, 1) := dk_89 (dk_at dksX1_road_5 14 rfl rfl)
theorem dX1_road_134 : decode cX1_road 134 = .ok (.getfield 123, 3) := dk_180 0 123 (dk_at dksX1_road_5 15 rfl rfl)
theorem dX1_road_137 : decode cX1_road 137 = .ok (.iconst 1, 1) := dk_4 (dk_at dksX1_road_5 18 rfl rfl)
theorem dX1_road_138 : decode cX1_road 138 = .ok (.iadd, 1) := dk_96 (dk_at dksX1_road_5 19 rfl rfl)
theorem dX1_road_139 : decode cX1_road 139 = .ok (.putfield 123, 3) := dk_181 0 123 (dk_at dksX1_road_5 20 rfl rfl)
theorem dX1_road_142 : decode cX1_road 142 = .ok (.aload_n 0, 1) := dk_42 (dk_at dksX1_road_5 23 rfl rfl)
theorem dX1_road_143 : decode cX1_road 143 = .ok (.getfield 123, 3) := dk_180 0 123 (dk_at dksX1_road_6 0 rfl rfl)
theorem dX1_road_146 : decode cX1_road 146 = .ok (.iconst 1, 1) := dk_4 (dk_at dksX1_road_6 3 rfl rfl)
theorem dX1_road_147 : decode cX1_road 147 = .ok (.isub, 1) := dk_100 (dk_at dksX1_road_6 4 rfl rfl)
theorem dX1_road_148 : decode cX1_road 148 = .ok (.ireturn, 1) := dk_172 (dk_at dksX1_road_6 5 rfl rfl)
abbrev cX1_isIsland : ByteArray := prog_16_method_11_code
def yX1_isIsland : MethodName := ⟨RX1, "isIsland", "(I)Z"⟩
def dkwX1_isIsland_0 : List UInt8 := [27, 155, 0, 15, 27, 42, 180, 0, 86, 162, 0, 7, 4, 167, 0, 4, 3, 172]
abbrev dktX1_isIsland_0 : List UInt8 := dkwX1_isIsland_0 ++ []
theorem dksX1_isIsland_0 : cX1_isIsland.data.toList.drop 0 = dktX1_isIsland_0 := by decide +kernel
theorem dX1_isIsland_0 : decode cX1_isIsland 0 = .ok (.iload_n 1, 1) := dk_27 (dk_at dksX1_isIsland_0 0 rfl rfl)
theorem dX1_isIsland_1 : decode cX1_isIsland 1 = .ok (.ifCond .lt 15, 3) := dk_155 0 15 (dk_at dksX1_isIsland_0 1 rfl rfl)
theorem dX1_isIsland_4 : decode cX1_isIsland 4 = .ok (.iload_n 1, 1) := dk_27 (dk_at dksX1_isIsland_0 4 rfl rfl)
theorem dX1_isIsland_5 : decode cX1_isIsland 5 = .ok (.aload_n 0, 1) := dk_42 (dk_at dksX1_isIsland_0 5 rfl rfl)
theorem dX1_isIsland_6 : decode cX1_isIsland 6 = .ok (.getfield 86, 3) := dk_180 0 86 (dk_at dksX1_isIsland_0 6 rfl rfl)
theorem dX1_isIsland_9 : decode cX1_isIsland 9 = .ok (.if_icmp .ge 7, 3) := dk_162 0 7 (dk_at dksX1_isIsland_0 9 rfl rfl)
theorem dX1_isIsland_12 : decode cX1_isIsland 12 = .ok (.iconst 1, 1) := dk_4 (dk_at dksX1_isIsland_0 12 rfl rfl)
theorem dX1_isIsland_13 : decode cX1_isIsland 13 = .ok (.goto 4, 3) := dk_167 0 4 (dk_at dksX1_isIsland_0 13 rfl rfl)
theorem dX1_isIsland_16 : decode cX1_isIsland 16 = .ok (.iconst 0, 1) := dk_3 (dk_at dksX1_isIsland_0 16 rfl rfl)
theorem dX1_isIsland_17 : decode cX1_isIsland 17 = .ok (.ireturn, 1) := dk_172 (dk_at dksX1_isIsland_0 17 rfl rfl)
abbrev cX1_ofRoad : ByteArray := prog_16_method_27_code
def yX1_ofRoad : MethodName := ⟨RX1, "ofRoad", "(II)I"⟩
def dkwX1_ofRoad_3 : List UInt8 := [180, 0, 46, 27, 46, 172, 42, 180, 0, 49, 27, 46, 172, 42, 180, 0, 52, 27, 46, 172, 16, 254, 172]
abbrev dktX1_ofRoad_3 : List UInt8 := dkwX1_ofRoad_3 ++ []
def dkwX1_ofRoad_2 : List UInt8 := [42, 180, 0, 37, 27, 46, 172, 42, 180, 0, 40, 27, 46, 172, 42, 180, 0, 43, 27, 46, 172, 42]
abbrev dktX1_ofRoad_2 : List UInt8 := dkwX1_ofRoad_2 ++ dktX1_ofRoad_3
def dkwX1_ofRoad_1 : List UInt8 := [170, 0, 0, 0, 79, 0, 0, 0, 0, 0, 0, 0, 5, 0, 0, 0, 37, 0, 0, 0, 44, 0, 0, 0, 51, 0, 0, 0, 58, 0, 0, 0, 65, 0, 0, 0, 72]
abbrev dktX1_ofRoad_1 : List UInt8 := dkwX1_ofRoad_1 ++ dktX1_ofRoad_2
def dkwX1_ofRoad_0 : List UInt8 := [42, 27, 182, 0, 153, 154, 0, 5, 2, 172, 28]
abbrev dktX1_ofRoad_0 : List UInt8 := dkwX1_ofRoad_0 ++ dktX1_ofRoad_1
theorem dksX1_ofRoad_0 : cX1_ofRoad.data.toList.drop 0 = dktX1_ofRoad_0 := by decide +kernel
theorem dksX1_ofRoad_1 : cX1_ofRoad.data.toList.drop 11 = dktX1_ofRoad_1 := dk_seg dksX1_ofRoad_0 11 rfl rfl
theorem dksX1_ofRoad_2 : cX1_ofRoad.data.toList.drop 48 = dktX1_ofRoad_2 := dk_seg dksX1_ofRoad_1 37 rfl rfl
theorem dksX1_ofRoad_3 : cX1_ofRoad.data.toList.drop 70 = dktX1_ofRoad_3 := dk_seg dksX1_ofRoad_2 22 rfl rfl
theorem dX1_ofRoad_0 : decode cX1_ofRoad 0 = .ok (.aload_n 0, 1) := dk_42 (dk_at dksX1_ofRoad_0 0 rfl rfl)
theorem dX1_ofRoad_1 : decode cX1_ofRoad 1 = .ok (.iload_n 1, 1) := dk_27 (dk_at dksX1_ofRoad_0 1 rfl rfl)
theorem dX1_ofRoad_2 : decode cX1_ofRoad 2 = .ok (.invokevirtual 153, 3) := dk_182 0 153 (dk_at dksX1_ofRoad_0 2 rfl rfl)
theorem dX1_ofRoad_5 : decode cX1_ofRoad 5 = .ok (.ifCond .ne 5, 3) := dk_154 0 5 (dk_at dksX1_ofRoad_0 5 rfl rfl)
theorem dX1_ofRoad_8 : decode cX1_ofRoad 8 = .ok (.iconst (-1), 1) := dk_2 (dk_at dksX1_ofRoad_0 8 rfl rfl)
theorem dX1_ofRoad_9 : decode cX1_ofRoad 9 = .ok (.ireturn, 1) := dk_172 (dk_at dksX1_ofRoad_0 9 rfl rfl)
theorem dX1_ofRoad_10 : decode cX1_ofRoad 10 = .ok (.iload_n 2, 1) := dk_28 (dk_at dksX1_ofRoad_0 10 rfl rfl)
theorem dX1_ofRoad_11 : decode cX1_ofRoad 11 = .ok (.tableswitch 79 0 5 #[37, 44, 51, 58, 65, 72], 37) := by decide +kernel
theorem dX1_ofRoad_48 : decode cX1_ofRoad 48 = .ok (.aload_n 0, 1) := dk_42 (dk_at dksX1_ofRoad_2 0 rfl rfl)
theorem dX1_ofRoad_49 : decode cX1_ofRoad 49 = .ok (.getfield 37, 3) := dk_180 0 37 (dk_at dksX1_ofRoad_2 1 rfl rfl)
theorem dX1_ofRoad_52 : decode cX1_ofRoad 52 = .ok (.iload_n 1, 1) := dk_27 (dk_at dksX1_ofRoad_2 4 rfl rfl)
theorem dX1_ofRoad_53 : decode cX1_ofRoad 53 = .ok (.iaload, 1) := dk_46 (dk_at dksX1_ofRoad_2 5 rfl rfl)
theorem dX1_ofRoad_54 : decode cX1_ofRoad 54 = .ok (.ireturn, 1) := dk_172 (dk_at dksX1_ofRoad_2 6 rfl rfl)
theorem dX1_ofRoad_55 : decode cX1_ofRoad 55 = .ok (.aload_n 0, 1) := dk_42 (dk_at dksX1_ofRoad_2 7 rfl rfl)
theorem dX1_ofRoad_56 : decode cX1_ofRoad 56 = .ok (.getfield 40, 3) := dk_180 0 40 (dk_at dksX1_ofRoad_2 8 rfl rfl)
theorem dX1_ofRoad_59 : decode cX1_ofRoad 59 = .ok (.iload_n 1, 1) := dk_27 (dk_at dksX1_ofRoad_2 11 rfl rfl)
theorem dX1_ofRoad_60 : decode cX1_ofRoad 60 = .ok (.iaload, 1) := dk_46 (dk_at dksX1_ofRoad_2 12 rfl rfl)
theorem dX1_ofRoad_61 : decode cX1_ofRoad 61 = .ok (.ireturn, 1) := dk_172 (dk_at dksX1_ofRoad_2 13 rfl rfl)
theorem dX1_ofRoad_62 : decode cX1_ofRoad 62 = .ok (.aload_n 0, 1) := dk_42 (dk_at dksX1_ofRoad_2 14 rfl rfl)
theorem dX1_ofRoad_63 : decode cX1_ofRoad 63 = .ok (.getfield 43, 3) := dk_180 0 43 (dk_at dksX1_ofRoad_2 15 rfl rfl)
theorem dX1_ofRoad_66 : decode cX1_ofRoad 66 = .ok (.iload_n 1, 1) := dk_27 (dk_at dksX1_ofRoad_2 18 rfl rfl)
theorem dX1_ofRoad_67 : decode cX1_ofRoad 67 = .ok (.iaload, 1) := dk_46 (dk_at dksX1_ofRoad_2 19 rfl rfl)
theorem dX1_ofRoad_68 : decode cX1_ofRoad 68 = .ok (.ireturn, 1) := dk_172 (dk_at dksX1_ofRoad_2 20 rfl rfl)
theorem dX1_ofRoad_69 : decode cX1_ofRoad 69 = .ok (.aload_n 0, 1) := dk_42 (dk_at dksX1_ofRoad_2 21 rfl rfl)
theorem dX1_ofRoad_70 : decode cX1_ofRoad 70 = .ok (.getfield 46, 3) := dk_180 0 46 (dk_at dksX1_ofRoad_3 0 rfl rfl)
theorem dX1_ofRoad_73 : decode cX1_ofRoad 73 = .ok (.iload_n 1, 1) := dk_27 (dk_at dksX1_ofRoad_3 3 rfl rfl)
theorem dX1_ofRoad_74 : decode cX1_ofRoad 74 = .ok (.iaload, 1) := dk_46 (dk_at dksX1_ofRoad_3 4 rfl rfl)
theorem dX1_ofRoad_75 : decode cX1_ofRoad 75 = .ok (.ireturn, 1) := dk_172 (dk_at dksX1_ofRoad_3 5 rfl rfl)
theorem dX1_ofRoad_76 : decode cX1_ofRoad 76 = .ok (.aload_n 0, 1) := dk_42 (dk_at dksX1_ofRoad_3 6 rfl rfl)
theorem dX1_ofRoad_77 : decode cX1_ofRoad 77 = .ok (.getfield 49, 3) := dk_180 0 49 (dk_at dksX1_ofRoad_3 7 rfl rfl)
theorem dX1_ofRoad_80 : decode cX1_ofRoad 80 = .ok (.iload_n 1, 1) := dk_27 (dk_at dksX1_ofRoad_3 10 rfl rfl)
theorem dX1_ofRoad_81 : decode cX1_ofRoad 81 = .ok (.iaload, 1) := dk_46 (dk_at dksX1_ofRoad_3 11 rfl rfl)
theorem dX1_ofRoad_82 : decode cX1_ofRoad 82 = .ok (.ireturn, 1) := dk_172 (dk_at dksX1_ofRoad_3 12 rfl rfl)
theorem dX1_ofRoad_83 : decode cX1_ofRoad 83 = .ok (.aload_n 0, 1) := dk_42 (dk_at dksX1_ofRoad_3 13 rfl rfl)
theorem dX1_ofRoad_84 : decode cX1_ofRoad 84 = .ok (.getfield 52, 3) := dk_180 0 52 (dk_at dksX1_ofRoad_3 14 rfl rfl)
theorem dX1_ofRoad_87 : decode cX1_ofRoad 87 = .ok (.iload_n 1, 1) := dk_27 (dk_at dksX1_ofRoad_3 17 rfl rfl)
theorem dX1_ofRoad_88 : decode cX1_ofRoad 88 = .ok (.iaload, 1) := dk_46 (dk_at dksX1_ofRoad_3 18 rfl rfl)
theorem dX1_ofRoad_89 : decode cX1_ofRoad 89 = .ok (.ireturn, 1) := dk_172 (dk_at dksX1_ofRoad_3 19 rfl rfl)
theorem dX1_ofRoad_90 : decode cX1_ofRoad 90 = .ok (.bipush (-2), 2) := dk_16 254 (dk_at dksX1_ofRoad_3 20 rfl rfl)
theorem dX1_ofRoad_92 : decode cX1_ofRoad 92 = .ok (.ireturn, 1) := dk_172 (dk_at dksX1_ofRoad_3 22 rfl rfl)
abbrev cX1_isRoad : ByteArray := prog_16_method_25_code
def yX1_isRoad : MethodName := ⟨RX1, "isRoad", "(I)Z"⟩
def dkwX1_isRoad_0 : List UInt8 := [27, 155, 0, 15, 27, 42, 180, 0, 123, 162, 0, 7, 4, 167, 0, 4, 3, 172]
abbrev dktX1_isRoad_0 : List UInt8 := dkwX1_isRoad_0 ++ []
theorem dksX1_isRoad_0 : cX1_isRoad.data.toList.drop 0 = dktX1_isRoad_0 := by decide +kernel
theorem dX1_isRoad_0 : decode cX1_isRoad 0 = .ok (.iload_n 1, 1) := dk_27 (dk_at dksX1_isRoad_0 0 rfl rfl)
theorem dX1_isRoad_1 : decode cX1_isRoad 1 = .ok (.ifCond .lt 15, 3) := dk_155 0 15 (dk_at dksX1_isRoad_0 1 rfl rfl)
theorem dX1_isRoad_4 : decode cX1_isRoad 4 = .ok (.iload_n 1, 1) := dk_27 (dk_at dksX1_isRoad_0 4 rfl rfl)
theorem dX1_isRoad_5 : decode cX1_isRoad 5 = .ok (.aload_n 0, 1) := dk_42 (dk_at dksX1_isRoad_0 5 rfl rfl)
theorem dX1_isRoad_6 : decode cX1_isRoad 6 = .ok (.getfield 123, 3) := dk_180 0 123 (dk_at dksX1_isRoad_0 6 rfl rfl)
theorem dX1_isRoad_9 : decode cX1_isRoad 9 = .ok (.if_icmp .ge 7, 3) := dk_162 0 7 (dk_at dksX1_isRoad_0 9 rfl rfl)
theorem dX1_isRoad_12 : decode cX1_isRoad 12 = .ok (.iconst 1, 1) := dk_4 (dk_at dksX1_isRoad_0 12 rfl rfl)
theorem dX1_isRoad_13 : decode cX1_isRoad 13 = .ok (.goto 4, 3) := dk_167 0 4 (dk_at dksX1_isRoad_0 13 rfl rfl)
theorem dX1_isRoad_16 : decode cX1_isRoad 16 = .ok (.iconst 0, 1) := dk_3 (dk_at dksX1_isRoad_0 16 rfl rfl)
theorem dX1_isRoad_17 : decode cX1_isRoad 17 = .ok (.ireturn, 1) := dk_172 (dk_at dksX1_isRoad_0 17 rfl rfl)
abbrev cX1_mend : ByteArray := prog_16_method_28_code
def yX1_mend : MethodName := ⟨RX1, "mend", "(I)I"⟩
def dkwX1_mend_2 : List UInt8 := [180, 0, 52, 27, 46, 172]
abbrev dktX1_mend_2 : List UInt8 := dkwX1_mend_2 ++ []
def dkwX1_mend_1 : List UInt8 := [180, 0, 52, 27, 46, 16, 9, 160, 0, 6, 16, 252, 172, 42, 180, 0, 52, 27, 92, 46, 4, 96, 79, 42]
abbrev dktX1_mend_1 : List UInt8 := dkwX1_mend_1 ++ dktX1_mend_2
def dkwX1_mend_0 : List UInt8 := [42, 27, 182, 0, 153, 154, 0, 5, 2, 172, 42, 180, 0, 37, 27, 46, 154, 0, 6, 16, 253, 172, 42]
abbrev dktX1_mend_0 : List UInt8 := dkwX1_mend_0 ++ dktX1_mend_1
theorem dksX1_mend_0 : cX1_mend.data.toList.drop 0 = dktX1_mend_0 := by decide +kernel
theorem dksX1_mend_1 : cX1_mend.data.toList.drop 23 = dktX1_mend_1 := dk_seg dksX1_mend_0 23 rfl rfl
theorem dksX1_mend_2 : cX1_mend.data.toList.drop 47 = dktX1_mend_2 := dk_seg dksX1_mend_1 24 rfl rfl
theorem dX1_mend_0 : decode cX1_mend 0 = .ok (.aload_n 0, 1) := dk_42 (dk_at dksX1_mend_0 0 rfl rfl)
theorem dX1_mend_1 : decode cX1_mend 1 = .ok (.iload_n 1, 1) := dk_27 (dk_at dksX1_mend_0 1 rfl rfl)
theorem dX1_mend_2 : decode cX1_mend 2 = .ok (.invokevirtual 153, 3) := dk_182 0 153 (dk_at dksX1_mend_0 2 rfl rfl)
theorem dX1_mend_5 : decode cX1_mend 5 = .ok (.ifCond .ne 5, 3) := dk_154 0 5 (dk_at dksX1_mend_0 5 rfl rfl)
theorem dX1_mend_8 : decode cX1_mend 8 = .ok (.iconst (-1), 1) := dk_2 (dk_at dksX1_mend_0 8 rfl rfl)
theorem dX1_mend_9 : decode cX1_mend 9 = .ok (.ireturn, 1) := dk_172 (dk_at dksX1_mend_0 9 rfl rfl)
theorem dX1_mend_10 : decode cX1_mend 10 = .ok (.aload_n 0, 1) := dk_42 (dk_at dksX1_mend_0 10 rfl rfl)
theorem dX1_mend_11 : decode cX1_mend 11 = .ok (.getfield 37, 3) := dk_180 0 37 (dk_at dksX1_mend_0 11 rfl rfl)
theorem dX1_mend_14 : decode cX1_mend 14 = .ok (.iload_n 1, 1) := dk_27 (dk_at dksX1_mend_0 14 rfl rfl)
theorem dX1_mend_15 : decode cX1_mend 15 = .ok (.iaload, 1) := dk_46 (dk_at dksX1_mend_0 15 rfl rfl)
theorem dX1_mend_16 : decode cX1_mend 16 = .ok (.ifCond .ne 6, 3) := dk_154 0 6 (dk_at dksX1_mend_0 16 rfl rfl)
theorem dX1_mend_19 : decode cX1_mend 19 = .ok (.bipush (-3), 2) := dk_16 253 (dk_at dksX1_mend_0 19 rfl rfl)
theorem dX1_mend_21 : decode cX1_mend 21 = .ok (.ireturn, 1) := dk_172 (dk_at dksX1_mend_0 21 rfl rfl)
theorem dX1_mend_22 : decode cX1_mend 22 = .ok (.aload_n 0, 1) := dk_42 (dk_at dksX1_mend_0 22 rfl rfl)
theorem dX1_mend_23 : decode cX1_mend 23 = .ok (.getfield 52, 3) := dk_180 0 52 (dk_at dksX1_mend_1 0 rfl rfl)
theorem dX1_mend_26 : decode cX1_mend 26 = .ok (.iload_n 1, 1) := dk_27 (dk_at dksX1_mend_1 3 rfl rfl)
theorem dX1_mend_27 : decode cX1_mend 27 = .ok (.iaload, 1) := dk_46 (dk_at dksX1_mend_1 4 rfl rfl)
theorem dX1_mend_28 : decode cX1_mend 28 = .ok (.bipush 9, 2) := dk_16 9 (dk_at dksX1_mend_1 5 rfl rfl)
theorem dX1_mend_30 : decode cX1_mend 30 = .ok (.if_icmp .ne 6, 3) := dk_160 0 6 (dk_at dksX1_mend_1 7 rfl rfl)
theorem dX1_mend_33 : decode cX1_mend 33 = .ok (.bipush (-4), 2) := dk_16 252 (dk_at dksX1_mend_1 10 rfl rfl)
theorem dX1_mend_35 : decode cX1_mend 35 = .ok (.ireturn, 1) := dk_172 (dk_at dksX1_mend_1 12 rfl rfl)
theorem dX1_mend_36 : decode cX1_mend 36 = .ok (.aload_n 0, 1) := dk_42 (dk_at dksX1_mend_1 13 rfl rfl)
theorem dX1_mend_37 : decode cX1_mend 37 = .ok (.getfield 52, 3) := dk_180 0 52 (dk_at dksX1_mend_1 14 rfl rfl)
theorem dX1_mend_40 : decode cX1_mend 40 = .ok (.iload_n 1, 1) := dk_27 (dk_at dksX1_mend_1 17 rfl rfl)
theorem dX1_mend_41 : decode cX1_mend 41 = .ok (.dup2, 1) := dk_92 (dk_at dksX1_mend_1 18 rfl rfl)
theorem dX1_mend_42 : decode cX1_mend 42 = .ok (.iaload, 1) := dk_46 (dk_at dksX1_mend_1 19 rfl rfl)
theorem dX1_mend_43 : decode cX1_mend 43 = .ok (.iconst 1, 1) := dk_4 (dk_at dksX1_mend_1 20 rfl rfl)
theorem dX1_mend_44 : decode cX1_mend 44 = .ok (.iadd, 1) := dk_96 (dk_at dksX1_mend_1 21 rfl rfl)
theorem dX1_mend_45 : decode cX1_mend 45 = .ok (.iastore, 1) := dk_79 (dk_at dksX1_mend_1 22 rfl rfl)
theorem dX1_mend_46 : decode cX1_mend 46 = .ok (.aload_n 0, 1) := dk_42 (dk_at dksX1_mend_1 23 rfl rfl)
theorem dX1_mend_47 : decode cX1_mend 47 = .ok (.getfield 52, 3) := dk_180 0 52 (dk_at dksX1_mend_2 0 rfl rfl)
theorem dX1_mend_50 : decode cX1_mend 50 = .ok (.iload_n 1, 1) := dk_27 (dk_at dksX1_mend_2 3 rfl rfl)
theorem dX1_mend_51 : decode cX1_mend 51 = .ok (.iaload, 1) := dk_46 (dk_at dksX1_mend_2 4 rfl rfl)
theorem dX1_mend_52 : decode cX1_mend 52 = .ok (.ireturn, 1) := dk_172 (dk_at dksX1_mend_2 5 rfl rfl)
abbrev cX1_height : ByteArray := prog_16_method_31_code
def yX1_height : MethodName := ⟨RX1, "height", "(II)I"⟩
def dkwX1_height_1 : List UInt8 := [167, 0, 5, 16, 254, 172]
abbrev dktX1_height_1 : List UInt8 := dkwX1_height_1 ++ []
def dkwX1_height_0 : List UInt8 := [42, 27, 182, 0, 153, 154, 0, 5, 2, 172, 28, 184, 0, 137, 153, 0, 12, 42, 27, 28, 182, 0, 156]
abbrev dktX1_height_0 : List UInt8 := dkwX1_height_0 ++ dktX1_height_1
theorem dksX1_height_0 : cX1_height.data.toList.drop 0 = dktX1_height_0 := by decide +kernel
theorem dksX1_height_1 : cX1_height.data.toList.drop 23 = dktX1_height_1 := dk_seg dksX1_height_0 23 rfl rfl
theorem dX1_height_0 : decode cX1_height 0 = .ok (.aload_n 0, 1) := dk_42 (dk_at dksX1_height_0 0 rfl rfl)
theorem dX1_height_1 : decode cX1_height 1 = .ok (.iload_n 1, 1) := dk_27 (dk_at dksX1_height_0 1 rfl rfl)
theorem dX1_height_2 : decode cX1_height 2 = .ok (.invokevirtual 153, 3) := dk_182 0 153 (dk_at dksX1_height_0 2 rfl rfl)
theorem dX1_height_5 : decode cX1_height 5 = .ok (.ifCond .ne 5, 3) := dk_154 0 5 (dk_at dksX1_height_0 5 rfl rfl)
theorem dX1_height_8 : decode cX1_height 8 = .ok (.iconst (-1), 1) := dk_2 (dk_at dksX1_height_0 8 rfl rfl)
theorem dX1_height_9 : decode cX1_height 9 = .ok (.ireturn, 1) := dk_172 (dk_at dksX1_height_0 9 rfl rfl)
theorem dX1_height_10 : decode cX1_height 10 = .ok (.iload_n 2, 1) := dk_28 (dk_at dksX1_height_0 10 rfl rfl)
theorem dX1_height_11 : decode cX1_height 11 = .ok (.invokestatic 137, 3) := dk_184 0 137 (dk_at dksX1_height_0 11 rfl rfl)
theorem dX1_height_14 : decode cX1_height 14 = .ok (.ifCond .eq 12, 3) := dk_153 0 12 (dk_at dksX1_height_0 14 rfl rfl)
theorem dX1_height_17 : decode cX1_height 17 = .ok (.aload_n 0, 1) := dk_42 (dk_at dksX1_height_0 17 rfl rfl)
theorem dX1_height_18 : decode cX1_height 18 = .ok (.iload_n 1, 1) := dk_27 (dk_at dksX1_height_0 18 rfl rfl)
theorem dX1_height_19 : decode cX1_height 19 = .ok (.iload_n 2, 1) := dk_28 (dk_at dksX1_height_0 19 rfl rfl)
theorem dX1_height_20 : decode cX1_height 20 = .ok (.invokevirtual 156, 3) := dk_182 0 156 (dk_at dksX1_height_0 20 rfl rfl)
theorem dX1_height_23 : decode cX1_height 23 = .ok (.goto 5, 3) := dk_167 0 5 (dk_at dksX1_height_1 0 rfl rfl)
theorem dX1_height_26 : decode cX1_height 26 = .ok (.bipush (-2), 2) := dk_16 254 (dk_at dksX1_height_1 3 rfl rfl)
theorem dX1_height_28 : decode cX1_height 28 = .ok (.ireturn, 1) := dk_172 (dk_at dksX1_height_1 5 rfl rfl)
abbrev cX1_heightAt : ByteArray := prog_16_method_29_code
def yX1_heightAt : MethodName := ⟨RX1, "heightAt", "(II)I"⟩
def dkwX1_heightAt_1 : List UInt8 := [160, 0, 10, 28, 16, 100, 108, 167, 0, 4, 3, 100, 62, 29, 156, 0, 7, 3, 167, 0, 4, 29, 172]
abbrev dktX1_heightAt_1 : List UInt8 := dkwX1_heightAt_1 ++ []
def dkwX1_heightAt_0 : List UInt8 := [42, 180, 0, 46, 27, 46, 5, 42, 180, 0, 52, 27, 46, 104, 96, 42, 180, 0, 37, 27, 46, 5]
abbrev dktX1_heightAt_0 : List UInt8 := dkwX1_heightAt_0 ++ dktX1_heightAt_1
theorem dksX1_heightAt_0 : cX1_heightAt.data.toList.drop 0 = dktX1_heightAt_0 := by decide +kernel
theorem dksX1_heightAt_1 : cX1_heightAt.data.toList.drop 22 = dktX1_heightAt_1 := dk_seg dksX1_heightAt_0 22 rfl rfl
theorem dX1_heightAt_0 : decode cX1_heightAt 0 = .ok (.aload_n 0, 1) := dk_42 (dk_at dksX1_heightAt_0 0 rfl rfl)
theorem dX1_heightAt_1 : decode cX1_heightAt 1 = .ok (.getfield 46, 3) := dk_180 0 46 (dk_at dksX1_heightAt_0 1 rfl rfl)
theorem dX1_heightAt_4 : decode cX1_heightAt 4 = .ok (.iload_n 1, 1) := dk_27 (dk_at dksX1_heightAt_0 4 rfl rfl)
theorem dX1_heightAt_5 : decode cX1_heightAt 5 = .ok (.iaload, 1) := dk_46 (dk_at dksX1_heightAt_0 5 rfl rfl)
theorem dX1_heightAt_6 : decode cX1_heightAt 6 = .ok (.iconst 2, 1) := dk_5 (dk_at dksX1_heightAt_0 6 rfl rfl)
theorem dX1_heightAt_7 : decode cX1_heightAt 7 = .ok (.aload_n 0, 1) := dk_42 (dk_at dksX1_heightAt_0 7 rfl rfl)
theorem dX1_heightAt_8 : decode cX1_heightAt 8 = .ok (.getfield 52, 3) := dk_180 0 52 (dk_at dksX1_heightAt_0 8 rfl rfl)
theorem dX1_heightAt_11 : decode cX1_heightAt 11 = .ok (.iload_n 1, 1) := dk_27 (dk_at dksX1_heightAt_0 11 rfl rfl)
theorem dX1_heightAt_12 : decode cX1_heightAt 12 = .ok (.iaload, 1) := dk_46 (dk_at dksX1_heightAt_0 12 rfl rfl)
theorem dX1_heightAt_13 : decode cX1_heightAt 13 = .ok (.imul, 1) := dk_104 (dk_at dksX1_heightAt_0 13 rfl rfl)
theorem dX1_heightAt_14 : decode cX1_heightAt 14 = .ok (.iadd, 1) := dk_96 (dk_at dksX1_heightAt_0 14 rfl rfl)
theorem dX1_heightAt_15 : decode cX1_heightAt 15 = .ok (.aload_n 0, 1) := dk_42 (dk_at dksX1_heightAt_0 15 rfl rfl)
theorem dX1_heightAt_16 : decode cX1_heightAt 16 = .ok (.getfield 37, 3) := dk_180 0 37 (dk_at dksX1_heightAt_0 16 rfl rfl)
theorem dX1_heightAt_19 : decode cX1_heightAt 19 = .ok (.iload_n 1, 1) := dk_27 (dk_at dksX1_heightAt_0 19 rfl rfl)
theorem dX1_heightAt_20 : decode cX1_heightAt 20 = .ok (.iaload, 1) := dk_46 (dk_at dksX1_heightAt_0 20 rfl rfl)
theorem dX1_heightAt_21 : decode cX1_heightAt 21 = .ok (.iconst 2, 1) := dk_5 (dk_at dksX1_heightAt_0 21 rfl rfl)
theorem dX1_heightAt_22 : decode cX1_heightAt 22 = .ok (.if_icmp .ne 10, 3) := dk_160 0 10 (dk_at dksX1_heightAt_1 0 rfl rfl)
theorem dX1_heightAt_25 : decode cX1_heightAt 25 = .ok (.iload_n 2, 1) := dk_28 (dk_at dksX1_heightAt_1 3 rfl rfl)
theorem dX1_heightAt_26 : decode cX1_heightAt 26 = .ok (.bipush 100, 2) := dk_16 100 (dk_at dksX1_heightAt_1 4 rfl rfl)
theorem dX1_heightAt_28 : decode cX1_heightAt 28 = .ok (.idiv, 1) := dk_108 (dk_at dksX1_heightAt_1 6 rfl rfl)
theorem dX1_heightAt_29 : decode cX1_heightAt 29 = .ok (.goto 4, 3) := dk_167 0 4 (dk_at dksX1_heightAt_1 7 rfl rfl)
theorem dX1_heightAt_32 : decode cX1_heightAt 32 = .ok (.iconst 0, 1) := dk_3 (dk_at dksX1_heightAt_1 10 rfl rfl)
theorem dX1_heightAt_33 : decode cX1_heightAt 33 = .ok (.isub, 1) := dk_100 (dk_at dksX1_heightAt_1 11 rfl rfl)
theorem dX1_heightAt_34 : decode cX1_heightAt 34 = .ok (.istore_n 3, 1) := dk_62 (dk_at dksX1_heightAt_1 12 rfl rfl)
theorem dX1_heightAt_35 : decode cX1_heightAt 35 = .ok (.iload_n 3, 1) := dk_29 (dk_at dksX1_heightAt_1 13 rfl rfl)
theorem dX1_heightAt_36 : decode cX1_heightAt 36 = .ok (.ifCond .ge 7, 3) := dk_156 0 7 (dk_at dksX1_heightAt_1 14 rfl rfl)
theorem dX1_heightAt_39 : decode cX1_heightAt 39 = .ok (.iconst 0, 1) := dk_3 (dk_at dksX1_heightAt_1 17 rfl rfl)
theorem dX1_heightAt_40 : decode cX1_heightAt 40 = .ok (.goto 4, 3) := dk_167 0 4 (dk_at dksX1_heightAt_1 18 rfl rfl)
theorem dX1_heightAt_43 : decode cX1_heightAt 43 = .ok (.iload_n 3, 1) := dk_29 (dk_at dksX1_heightAt_1 21 rfl rfl)
theorem dX1_heightAt_44 : decode cX1_heightAt 44 = .ok (.ireturn, 1) := dk_172 (dk_at dksX1_heightAt_1 22 rfl rfl)
abbrev cX1_dry : ByteArray := prog_16_method_32_code
def yX1_dry : MethodName := ⟨RX1, "dry", "(II)I"⟩
def dkwX1_dry_1 : List UInt8 := [28, 182, 0, 159, 153, 0, 7, 4, 167, 0, 4, 3, 172]
abbrev dktX1_dry_1 : List UInt8 := dkwX1_dry_1 ++ []
def dkwX1_dry_0 : List UInt8 := [42, 27, 182, 0, 153, 154, 0, 5, 2, 172, 28, 184, 0, 137, 154, 0, 8, 16, 254, 167, 0, 17, 42, 27]
abbrev dktX1_dry_0 : List UInt8 := dkwX1_dry_0 ++ dktX1_dry_1
theorem dksX1_dry_0 : cX1_dry.data.toList.drop 0 = dktX1_dry_0 := by decide +kernel
theorem dksX1_dry_1 : cX1_dry.data.toList.drop 24 = dktX1_dry_1 := dk_seg dksX1_dry_0 24 rfl rfl
theorem dX1_dry_0 : decode cX1_dry 0 = .ok (.aload_n 0, 1) := dk_42 (dk_at dksX1_dry_0 0 rfl rfl)
theorem dX1_dry_1 : decode cX1_dry 1 = .ok (.iload_n 1, 1) := dk_27 (dk_at dksX1_dry_0 1 rfl rfl)
theorem dX1_dry_2 : decode cX1_dry 2 = .ok (.invokevirtual 153, 3) := dk_182 0 153 (dk_at dksX1_dry_0 2 rfl rfl)
theorem dX1_dry_5 : decode cX1_dry 5 = .ok (.ifCond .ne 5, 3) := dk_154 0 5 (dk_at dksX1_dry_0 5 rfl rfl)
theorem dX1_dry_8 : decode cX1_dry 8 = .ok (.iconst (-1), 1) := dk_2 (dk_at dksX1_dry_0 8 rfl rfl)
theorem dX1_dry_9 : decode cX1_dry 9 = .ok (.ireturn, 1) := dk_172 (dk_at dksX1_dry_0 9 rfl rfl)
theorem dX1_dry_10 : decode cX1_dry 10 = .ok (.iload_n 2, 1) := dk_28 (dk_at dksX1_dry_0 10 rfl rfl)
theorem dX1_dry_11 : decode cX1_dry 11 = .ok (.invokestatic 137, 3) := dk_184 0 137 (dk_at dksX1_dry_0 11 rfl rfl)
theorem dX1_dry_14 : decode cX1_dry 14 = .ok (.ifCond .ne 8, 3) := dk_154 0 8 (dk_at dksX1_dry_0 14 rfl rfl)
theorem dX1_dry_17 : decode cX1_dry 17 = .ok (.bipush (-2), 2) := dk_16 254 (dk_at dksX1_dry_0 17 rfl rfl)
theorem dX1_dry_19 : decode cX1_dry 19 = .ok (.goto 17, 3) := dk_167 0 17 (dk_at dksX1_dry_0 19 rfl rfl)
theorem dX1_dry_22 : decode cX1_dry 22 = .ok (.aload_n 0, 1) := dk_42 (dk_at dksX1_dry_0 22 rfl rfl)
theorem dX1_dry_23 : decode cX1_dry 23 = .ok (.iload_n 1, 1) := dk_27 (dk_at dksX1_dry_0 23 rfl rfl)
theorem dX1_dry_24 : decode cX1_dry 24 = .ok (.iload_n 2, 1) := dk_28 (dk_at dksX1_dry_1 0 rfl rfl)
theorem dX1_dry_25 : decode cX1_dry 25 = .ok (.invokevirtual 159, 3) := dk_182 0 159 (dk_at dksX1_dry_1 1 rfl rfl)
theorem dX1_dry_28 : decode cX1_dry 28 = .ok (.ifCond .eq 7, 3) := dk_153 0 7 (dk_at dksX1_dry_1 4 rfl rfl)
theorem dX1_dry_31 : decode cX1_dry 31 = .ok (.iconst 1, 1) := dk_4 (dk_at dksX1_dry_1 7 rfl rfl)
theorem dX1_dry_32 : decode cX1_dry 32 = .ok (.goto 4, 3) := dk_167 0 4 (dk_at dksX1_dry_1 8 rfl rfl)
theorem dX1_dry_35 : decode cX1_dry 35 = .ok (.iconst 0, 1) := dk_3 (dk_at dksX1_dry_1 11 rfl rfl)
theorem dX1_dry_36 : decode cX1_dry 36 = .ok (.ireturn, 1) := dk_172 (dk_at dksX1_dry_1 12 rfl rfl)
abbrev cX1_isDry : ByteArray := prog_16_method_30_code
def yX1_isDry : MethodName := ⟨RX1, "isDry", "(II)Z"⟩
def dkwX1_isDry_0 : List UInt8 := [42, 28, 182, 0, 144, 42, 27, 28, 182, 0, 156, 163, 0, 7, 4, 167, 0, 4, 3, 172]
abbrev dktX1_isDry_0 : List UInt8 := dkwX1_isDry_0 ++ []
theorem dksX1_isDry_0 : cX1_isDry.data.toList.drop 0 = dktX1_isDry_0 := by decide +kernel
theorem dX1_isDry_0 : decode cX1_isDry 0 = .ok (.aload_n 0, 1) := dk_42 (dk_at dksX1_isDry_0 0 rfl rfl)
theorem dX1_isDry_1 : decode cX1_isDry 1 = .ok (.iload_n 2, 1) := dk_28 (dk_at dksX1_isDry_0 1 rfl rfl)
theorem dX1_isDry_2 : decode cX1_isDry 2 = .ok (.invokevirtual 144, 3) := dk_182 0 144 (dk_at dksX1_isDry_0 2 rfl rfl)
theorem dX1_isDry_5 : decode cX1_isDry 5 = .ok (.aload_n 0, 1) := dk_42 (dk_at dksX1_isDry_0 5 rfl rfl)
theorem dX1_isDry_6 : decode cX1_isDry 6 = .ok (.iload_n 1, 1) := dk_27 (dk_at dksX1_isDry_0 6 rfl rfl)
theorem dX1_isDry_7 : decode cX1_isDry 7 = .ok (.iload_n 2, 1) := dk_28 (dk_at dksX1_isDry_0 7 rfl rfl)
theorem dX1_isDry_8 : decode cX1_isDry 8 = .ok (.invokevirtual 156, 3) := dk_182 0 156 (dk_at dksX1_isDry_0 8 rfl rfl)
theorem dX1_isDry_11 : decode cX1_isDry 11 = .ok (.if_icmp .gt 7, 3) := dk_163 0 7 (dk_at dksX1_isDry_0 11 rfl rfl)
theorem dX1_isDry_14 : decode cX1_isDry 14 = .ok (.iconst 1, 1) := dk_4 (dk_at dksX1_isDry_0 14 rfl rfl)
theorem dX1_isDry_15 : decode cX1_isDry 15 = .ok (.goto 4, 3) := dk_167 0 4 (dk_at dksX1_isDry_0 15 rfl rfl)
theorem dX1_isDry_18 : decode cX1_isDry 18 = .ok (.iconst 0, 1) := dk_3 (dk_at dksX1_isDry_0 18 rfl rfl)
theorem dX1_isDry_19 : decode cX1_isDry 19 = .ok (.ireturn, 1) := dk_172 (dk_at dksX1_isDry_0 19 rfl rfl)
abbrev cX1_dryHours : ByteArray := prog_16_method_33_code
def yX1_dryHours : MethodName := ⟨RX1, "dryHours", "(IIII)J"⟩
def dkwX1_dryHours_3 : List UInt8 := [54, 5, 132, 6, 1, 167, 255, 227, 21, 5, 133, 29, 28, 100, 133, 21, 4, 184, 0, 162, 173]
abbrev dktX1_dryHours_3 : List UInt8 := dkwX1_dryHours_3 ++ []
def dkwX1_dryHours_2 : List UInt8 := [21, 6, 29, 162, 0, 29, 21, 5, 42, 27, 21, 6, 182, 0, 159, 153, 0, 7, 4, 167, 0, 4, 3, 96]
abbrev dktX1_dryHours_2 : List UInt8 := dkwX1_dryHours_2 ++ dktX1_dryHours_3
def dkwX1_dryHours_1 : List UInt8 := [163, 0, 13, 21, 4, 3, 4, 184, 0, 82, 154, 0, 7, 20, 0, 80, 173, 3, 54, 5, 28, 54, 6]
abbrev dktX1_dryHours_1 : List UInt8 := dkwX1_dryHours_1 ++ dktX1_dryHours_2
def dkwX1_dryHours_0 : List UInt8 := [42, 27, 182, 0, 153, 153, 0, 32, 28, 184, 0, 137, 153, 0, 25, 29, 28, 164, 0, 20, 29, 17, 7, 208]
abbrev dktX1_dryHours_0 : List UInt8 := dkwX1_dryHours_0 ++ dktX1_dryHours_1
theorem dksX1_dryHours_0 : cX1_dryHours.data.toList.drop 0 = dktX1_dryHours_0 := by decide +kernel
theorem dksX1_dryHours_1 : cX1_dryHours.data.toList.drop 24 = dktX1_dryHours_1 := dk_seg dksX1_dryHours_0 24 rfl rfl
theorem dksX1_dryHours_2 : cX1_dryHours.data.toList.drop 47 = dktX1_dryHours_2 := dk_seg dksX1_dryHours_1 23 rfl rfl
theorem dksX1_dryHours_3 : cX1_dryHours.data.toList.drop 71 = dktX1_dryHours_3 := dk_seg dksX1_dryHours_2 24 rfl rfl
theorem dX1_dryHours_0 : decode cX1_dryHours 0 = .ok (.aload_n 0, 1) := dk_42 (dk_at dksX1_dryHours_0 0 rfl rfl)
theorem dX1_dryHours_1 : decode cX1_dryHours 1 = .ok (.iload_n 1, 1) := dk_27 (dk_at dksX1_dryHours_0 1 rfl rfl)
theorem dX1_dryHours_2 : decode cX1_dryHours 2 = .ok (.invokevirtual 153, 3) := dk_182 0 153 (dk_at dksX1_dryHours_0 2 rfl rfl)
theorem dX1_dryHours_5 : decode cX1_dryHours 5 = .ok (.ifCond .eq 32, 3) := dk_153 0 32 (dk_at dksX1_dryHours_0 5 rfl rfl)
theorem dX1_dryHours_8 : decode cX1_dryHours 8 = .ok (.iload_n 2, 1) := dk_28 (dk_at dksX1_dryHours_0 8 rfl rfl)
theorem dX1_dryHours_9 : decode cX1_dryHours 9 = .ok (.invokestatic 137, 3) := dk_184 0 137 (dk_at dksX1_dryHours_0 9 rfl rfl)
theorem dX1_dryHours_12 : decode cX1_dryHours 12 = .ok (.ifCond .eq 25, 3) := dk_153 0 25 (dk_at dksX1_dryHours_0 12 rfl rfl)
theorem dX1_dryHours_15 : decode cX1_dryHours 15 = .ok (.iload_n 3, 1) := dk_29 (dk_at dksX1_dryHours_0 15 rfl rfl)
theorem dX1_dryHours_16 : decode cX1_dryHours 16 = .ok (.iload_n 2, 1) := dk_28 (dk_at dksX1_dryHours_0 16 rfl rfl)
theorem dX1_dryHours_17 : decode cX1_dryHours 17 = .ok (.if_icmp .le 20, 3) := dk_164 0 20 (dk_at dksX1_dryHours_0 17 rfl rfl)
theorem dX1_dryHours_20 : decode cX1_dryHours 20 = .ok (.iload_n 3, 1) := dk_29 (dk_at dksX1_dryHours_0 20 rfl rfl)
theorem dX1_dryHours_21 : decode cX1_dryHours 21 = .ok (.sipush 2000, 3) := dk_17 7 208 (dk_at dksX1_dryHours_0 21 rfl rfl)
theorem dX1_dryHours_24 : decode cX1_dryHours 24 = .ok (.if_icmp .gt 13, 3) := dk_163 0 13 (dk_at dksX1_dryHours_1 0 rfl rfl)
theorem dX1_dryHours_27 : decode cX1_dryHours 27 = .ok (.iload 4, 2) := dk_21 4 (dk_at dksX1_dryHours_1 3 rfl rfl)
theorem dX1_dryHours_29 : decode cX1_dryHours 29 = .ok (.iconst 0, 1) := dk_3 (dk_at dksX1_dryHours_1 5 rfl rfl)
theorem dX1_dryHours_30 : decode cX1_dryHours 30 = .ok (.iconst 1, 1) := dk_4 (dk_at dksX1_dryHours_1 6 rfl rfl)
theorem dX1_dryHours_31 : decode cX1_dryHours 31 = .ok (.invokestatic 82, 3) := dk_184 0 82 (dk_at dksX1_dryHours_1 7 rfl rfl)
theorem dX1_dryHours_34 : decode cX1_dryHours 34 = .ok (.ifCond .ne 7, 3) := dk_154 0 7 (dk_at dksX1_dryHours_1 10 rfl rfl)
theorem dX1_dryHours_37 : decode cX1_dryHours 37 = .ok (.ldc2_w 80, 3) := dk_20 0 80 (dk_at dksX1_dryHours_1 13 rfl rfl)
theorem dX1_dryHours_40 : decode cX1_dryHours 40 = .ok (.lreturn, 1) := dk_173 (dk_at dksX1_dryHours_1 16 rfl rfl)
theorem dX1_dryHours_41 : decode cX1_dryHours 41 = .ok (.iconst 0, 1) := dk_3 (dk_at dksX1_dryHours_1 17 rfl rfl)
theorem dX1_dryHours_42 : decode cX1_dryHours 42 = .ok (.istore 5, 2) := dk_54 5 (dk_at dksX1_dryHours_1 18 rfl rfl)
theorem dX1_dryHours_44 : decode cX1_dryHours 44 = .ok (.iload_n 2, 1) := dk_28 (dk_at dksX1_dryHours_1 20 rfl rfl)
theorem dX1_dryHours_45 : decode cX1_dryHours 45 = .ok (.istore 6, 2) := dk_54 6 (dk_at dksX1_dryHours_1 21 rfl rfl)
theorem dX1_dryHours_47 : decode cX1_dryHours 47 = .ok (.iload 6, 2) := dk_21 6 (dk_at dksX1_dryHours_2 0 rfl rfl)
theorem dX1_dryHours_49 : decode cX1_dryHours 49 = .ok (.iload_n 3, 1) := dk_29 (dk_at dksX1_dryHours_2 2 rfl rfl)
theorem dX1_dryHours_50 : decode cX1_dryHours 50 = .ok (.if_icmp .ge 29, 3) := dk_162 0 29 (dk_at dksX1_dryHours_2 3 rfl rfl)
theorem dX1_dryHours_53 : decode cX1_dryHours 53 = .ok (.iload 5, 2) := dk_21 5 (dk_at dksX1_dryHours_2 6 rfl rfl)
theorem dX1_dryHours_55 : decode cX1_dryHours 55 = .ok (.aload_n 0, 1) := dk_42 (dk_at dksX1_dryHours_2 8 rfl rfl)
theorem dX1_dryHours_56 : decode cX1_dryHours 56 = .ok (.iload_n 1, 1) := dk_27 (dk_at dksX1_dryHours_2 9 rfl rfl)
theorem dX1_dryHours_57 : decode cX1_dryHours 57 = .ok (.iload 6, 2) := dk_21 6 (dk_at dksX1_dryHours_2 10 rfl rfl)
theorem dX1_dryHours_59 : decode cX1_dryHours 59 = .ok (.invokevirtual 159, 3) := dk_182 0 159 (dk_at dksX1_dryHours_2 12 rfl rfl)
theorem dX1_dryHours_62 : decode cX1_dryHours 62 = .ok (.ifCond .eq 7, 3) := dk_153 0 7 (dk_at dksX1_dryHours_2 15 rfl rfl)
theorem dX1_dryHours_65 : decode cX1_dryHours 65 = .ok (.iconst 1, 1) := dk_4 (dk_at dksX1_dryHours_2 18 rfl rfl)
theorem dX1_dryHours_66 : decode cX1_dryHours 66 = .ok (.goto 4, 3) := dk_167 0 4 (dk_at dksX1_dryHours_2 19 rfl rfl)
theorem dX1_dryHours_69 : decode cX1_dryHours 69 = .ok (.iconst 0, 1) := dk_3 (dk_at dksX1_dryHours_2 22 rfl rfl)
theorem dX1_dryHours_70 : decode cX1_dryHours 70 = .ok (.iadd, 1) := dk_96 (dk_at dksX1_dryHours_2 23 rfl rfl)
theorem dX1_dryHours_71 : decode cX1_dryHours 71 = .ok (.istore 5, 2) := dk_54 5 (dk_at dksX1_dryHours_3 0 rfl rfl)
theorem dX1_dryHours_73 : decode cX1_dryHours 73 = .ok (.iinc 6 1, 3) := dk_132 6 1 (dk_at dksX1_dryHours_3 2 rfl rfl)
theorem dX1_dryHours_76 : decode cX1_dryHours 76 = .ok (.goto (-29), 3) := dk_167 255 227 (dk_at dksX1_dryHours_3 5 rfl rfl)
theorem dX1_dryHours_79 : decode cX1_dryHours 79 = .ok (.iload 5, 2) := dk_21 5 (dk_at dksX1_dryHours_3 8 rfl rfl)
theorem dX1_dryHours_81 : decode cX1_dryHours 81 = .ok (.i2l, 1) := dk_133 (dk_at dksX1_dryHours_3 10 rfl rfl)
theorem dX1_dryHours_82 : decode cX1_dryHours 82 = .ok (.iload_n 3, 1) := dk_29 (dk_at dksX1_dryHours_3 11 rfl rfl)
theorem dX1_dryHours_83 : decode cX1_dryHours 83 = .ok (.iload_n 2, 1) := dk_28 (dk_at dksX1_dryHours_3 12 rfl rfl)
theorem dX1_dryHours_84 : decode cX1_dryHours 84 = .ok (.isub, 1) := dk_100 (dk_at dksX1_dryHours_3 13 rfl rfl)
theorem dX1_dryHours_85 : decode cX1_dryHours 85 = .ok (.i2l, 1) := dk_133 (dk_at dksX1_dryHours_3 14 rfl rfl)
theorem dX1_dryHours_86 : decode cX1_dryHours 86 = .ok (.iload 4, 2) := dk_21 4 (dk_at dksX1_dryHours_3 15 rfl rfl)
theorem dX1_dryHours_88 : decode cX1_dryHours 88 = .ok (.invokestatic 162, 3) := dk_184 0 162 (dk_at dksX1_dryHours_3 17 rfl rfl)
theorem dX1_dryHours_91 : decode cX1_dryHours 91 = .ok (.lreturn, 1) := dk_173 (dk_at dksX1_dryHours_3 20 rfl rfl)
abbrev cX1_share : ByteArray := prog_16_method_6_code
def yX1_share : MethodName := ⟨RX1, "share", "(JJI)J"⟩
def dkwX1_share_1 : List UInt8 := [22, 9, 55, 7, 167, 255, 234, 21, 4, 154, 0, 10, 30, 22, 5, 109, 167, 0, 7, 32, 22, 5, 109, 173]
abbrev dktX1_share_1 : List UInt8 := dkwX1_share_1 ++ []
def dkwX1_share_0 : List UInt8 := [30, 55, 5, 32, 55, 7, 22, 7, 9, 148, 153, 0, 21, 22, 5, 22, 7, 113, 55, 9, 22, 7, 55, 5]
abbrev dktX1_share_0 : List UInt8 := dkwX1_share_0 ++ dktX1_share_1
theorem dksX1_share_0 : cX1_share.data.toList.drop 0 = dktX1_share_0 := by decide +kernel
theorem dksX1_share_1 : cX1_share.data.toList.drop 24 = dktX1_share_1 := dk_seg dksX1_share_0 24 rfl rfl
theorem dX1_share_0 : decode cX1_share 0 = .ok (.lload_n 0, 1) := dk_30 (dk_at dksX1_share_0 0 rfl rfl)
theorem dX1_share_1 : decode cX1_share 1 = .ok (.lstore 5, 2) := dk_55 5 (dk_at dksX1_share_0 1 rfl rfl)
theorem dX1_share_3 : decode cX1_share 3 = .ok (.lload_n 2, 1) := dk_32 (dk_at dksX1_share_0 3 rfl rfl)
theorem dX1_share_4 : decode cX1_share 4 = .ok (.lstore 7, 2) := dk_55 7 (dk_at dksX1_share_0 4 rfl rfl)
theorem dX1_share_6 : decode cX1_share 6 = .ok (.lload 7, 2) := dk_22 7 (dk_at dksX1_share_0 6 rfl rfl)
theorem dX1_share_8 : decode cX1_share 8 = .ok (.lconst 0, 1) := dk_9 (dk_at dksX1_share_0 8 rfl rfl)
theorem dX1_share_9 : decode cX1_share 9 = .ok (.lcmp, 1) := dk_148 (dk_at dksX1_share_0 9 rfl rfl)
theorem dX1_share_10 : decode cX1_share 10 = .ok (.ifCond .eq 21, 3) := dk_153 0 21 (dk_at dksX1_share_0 10 rfl rfl)
theorem dX1_share_13 : decode cX1_share 13 = .ok (.lload 5, 2) := dk_22 5 (dk_at dksX1_share_0 13 rfl rfl)
theorem dX1_share_15 : decode cX1_share 15 = .ok (.lload 7, 2) := dk_22 7 (dk_at dksX1_share_0 15 rfl rfl)
theorem dX1_share_17 : decode cX1_share 17 = .ok (.lrem, 1) := dk_113 (dk_at dksX1_share_0 17 rfl rfl)
theorem dX1_share_18 : decode cX1_share 18 = .ok (.lstore 9, 2) := dk_55 9 (dk_at dksX1_share_0 18 rfl rfl)
theorem dX1_share_20 : decode cX1_share 20 = .ok (.lload 7, 2) := dk_22 7 (dk_at dksX1_share_0 20 rfl rfl)
theorem dX1_share_22 : decode cX1_share 22 = .ok (.lstore 5, 2) := dk_55 5 (dk_at dksX1_share_0 22 rfl rfl)
theorem dX1_share_24 : decode cX1_share 24 = .ok (.lload 9, 2) := dk_22 9 (dk_at dksX1_share_1 0 rfl rfl)
theorem dX1_share_26 : decode cX1_share 26 = .ok (.lstore 7, 2) := dk_55 7 (dk_at dksX1_share_1 2 rfl rfl)
theorem dX1_share_28 : decode cX1_share 28 = .ok (.goto (-22), 3) := dk_167 255 234 (dk_at dksX1_share_1 4 rfl rfl)
theorem dX1_share_31 : decode cX1_share 31 = .ok (.iload 4, 2) := dk_21 4 (dk_at dksX1_share_1 7 rfl rfl)
theorem dX1_share_33 : decode cX1_share 33 = .ok (.ifCond .ne 10, 3) := dk_154 0 10 (dk_at dksX1_share_1 9 rfl rfl)
theorem dX1_share_36 : decode cX1_share 36 = .ok (.lload_n 0, 1) := dk_30 (dk_at dksX1_share_1 12 rfl rfl)
theorem dX1_share_37 : decode cX1_share 37 = .ok (.lload 5, 2) := dk_22 5 (dk_at dksX1_share_1 13 rfl rfl)
theorem dX1_share_39 : decode cX1_share 39 = .ok (.ldiv, 1) := dk_109 (dk_at dksX1_share_1 15 rfl rfl)
theorem dX1_share_40 : decode cX1_share 40 = .ok (.goto 7, 3) := dk_167 0 7 (dk_at dksX1_share_1 16 rfl rfl)
theorem dX1_share_43 : decode cX1_share 43 = .ok (.lload_n 2, 1) := dk_32 (dk_at dksX1_share_1 19 rfl rfl)
theorem dX1_share_44 : decode cX1_share 44 = .ok (.lload 5, 2) := dk_22 5 (dk_at dksX1_share_1 20 rfl rfl)
theorem dX1_share_46 : decode cX1_share 46 = .ok (.ldiv, 1) := dk_109 (dk_at dksX1_share_1 22 rfl rfl)
theorem dX1_share_47 : decode cX1_share 47 = .ok (.lreturn, 1) := dk_173 (dk_at dksX1_share_1 23 rfl rfl)
abbrev cX1_next : ByteArray := prog_16_method_36_code
def yX1_next : MethodName := ⟨RX1, "next", "(IIZ)I"⟩
def dkwX1_next_2 : List UInt8 := [160, 0, 8, 16, 247, 167, 0, 5, 21, 4, 172]
abbrev dktX1_next_2 : List UInt8 := dkwX1_next_2 ++ []
def dkwX1_next_1 : List UInt8 := [182, 0, 166, 42, 180, 0, 55, 17, 7, 209, 27, 104, 28, 96, 46, 54, 4, 21, 4, 17, 39, 15]
abbrev dktX1_next_1 : List UInt8 := dkwX1_next_1 ++ dktX1_next_2
def dkwX1_next_0 : List UInt8 := [42, 27, 182, 0, 153, 154, 0, 5, 2, 172, 28, 184, 0, 137, 154, 0, 6, 16, 254, 172, 42, 27, 29]
abbrev dktX1_next_0 : List UInt8 := dkwX1_next_0 ++ dktX1_next_1
theorem dksX1_next_0 : cX1_next.data.toList.drop 0 = dktX1_next_0 := by decide +kernel
theorem dksX1_next_1 : cX1_next.data.toList.drop 23 = dktX1_next_1 := dk_seg dksX1_next_0 23 rfl rfl
theorem dksX1_next_2 : cX1_next.data.toList.drop 45 = dktX1_next_2 := dk_seg dksX1_next_1 22 rfl rfl
theorem dX1_next_0 : decode cX1_next 0 = .ok (.aload_n 0, 1) := dk_42 (dk_at dksX1_next_0 0 rfl rfl)
theorem dX1_next_1 : decode cX1_next 1 = .ok (.iload_n 1, 1) := dk_27 (dk_at dksX1_next_0 1 rfl rfl)
theorem dX1_next_2 : decode cX1_next 2 = .ok (.invokevirtual 153, 3) := dk_182 0 153 (dk_at dksX1_next_0 2 rfl rfl)
theorem dX1_next_5 : decode cX1_next 5 = .ok (.ifCond .ne 5, 3) := dk_154 0 5 (dk_at dksX1_next_0 5 rfl rfl)
theorem dX1_next_8 : decode cX1_next 8 = .ok (.iconst (-1), 1) := dk_2 (dk_at dksX1_next_0 8 rfl rfl)
theorem dX1_next_9 : decode cX1_next 9 = .ok (.ireturn, 1) := dk_172 (dk_at dksX1_next_0 9 rfl rfl)
theorem dX1_next_10 : decode cX1_next 10 = .ok (.iload_n 2, 1) := dk_28 (dk_at dksX1_next_0 10 rfl rfl)
theorem dX1_next_11 : decode cX1_next 11 = .ok (.invokestatic 137, 3) := dk_184 0 137 (dk_at dksX1_next_0 11 rfl rfl)
theorem dX1_next_14 : decode cX1_next 14 = .ok (.ifCond .ne 6, 3) := dk_154 0 6 (dk_at dksX1_next_0 14 rfl rfl)
theorem dX1_next_17 : decode cX1_next 17 = .ok (.bipush (-2), 2) := dk_16 254 (dk_at dksX1_next_0 17 rfl rfl)
theorem dX1_next_19 : decode cX1_next 19 = .ok (.ireturn, 1) := dk_172 (dk_at dksX1_next_0 19 rfl rfl)
theorem dX1_next_20 : decode cX1_next 20 = .ok (.aload_n 0, 1) := dk_42 (dk_at dksX1_next_0 20 rfl rfl)
theorem dX1_next_21 : decode cX1_next 21 = .ok (.iload_n 1, 1) := dk_27 (dk_at dksX1_next_0 21 rfl rfl)
theorem dX1_next_22 : decode cX1_next 22 = .ok (.iload_n 3, 1) := dk_29 (dk_at dksX1_next_0 22 rfl rfl)
theorem dX1_next_23 : decode cX1_next 23 = .ok (.invokevirtual 166, 3) := dk_182 0 166 (dk_at dksX1_next_1 0 rfl rfl)
theorem dX1_next_26 : decode cX1_next 26 = .ok (.aload_n 0, 1) := dk_42 (dk_at dksX1_next_1 3 rfl rfl)
theorem dX1_next_27 : decode cX1_next 27 = .ok (.getfield 55, 3) := dk_180 0 55 (dk_at dksX1_next_1 4 rfl rfl)
theorem dX1_next_30 : decode cX1_next 30 = .ok (.sipush 2001, 3) := dk_17 7 209 (dk_at dksX1_next_1 7 rfl rfl)
theorem dX1_next_33 : decode cX1_next 33 = .ok (.iload_n 1, 1) := dk_27 (dk_at dksX1_next_1 10 rfl rfl)
theorem dX1_next_34 : decode cX1_next 34 = .ok (.imul, 1) := dk_104 (dk_at dksX1_next_1 11 rfl rfl)
theorem dX1_next_35 : decode cX1_next 35 = .ok (.iload_n 2, 1) := dk_28 (dk_at dksX1_next_1 12 rfl rfl)
theorem dX1_next_36 : decode cX1_next 36 = .ok (.iadd, 1) := dk_96 (dk_at dksX1_next_1 13 rfl rfl)
theorem dX1_next_37 : decode cX1_next 37 = .ok (.iaload, 1) := dk_46 (dk_at dksX1_next_1 14 rfl rfl)
theorem dX1_next_38 : decode cX1_next 38 = .ok (.istore 4, 2) := dk_54 4 (dk_at dksX1_next_1 15 rfl rfl)
theorem dX1_next_40 : decode cX1_next 40 = .ok (.iload 4, 2) := dk_21 4 (dk_at dksX1_next_1 17 rfl rfl)
theorem dX1_next_42 : decode cX1_next 42 = .ok (.sipush 9999, 3) := dk_17 39 15 (dk_at dksX1_next_1 19 rfl rfl)
theorem dX1_next_45 : decode cX1_next 45 = .ok (.if_icmp .ne 8, 3) := dk_160 0 8 (dk_at dksX1_next_2 0 rfl rfl)
theorem dX1_next_48 : decode cX1_next 48 = .ok (.bipush (-9), 2) := dk_16 247 (dk_at dksX1_next_2 3 rfl rfl)
theorem dX1_next_50 : decode cX1_next 50 = .ok (.goto 5, 3) := dk_167 0 5 (dk_at dksX1_next_2 5 rfl rfl)
theorem dX1_next_53 : decode cX1_next 53 = .ok (.iload 4, 2) := dk_21 4 (dk_at dksX1_next_2 8 rfl rfl)
theorem dX1_next_55 : decode cX1_next 55 = .ok (.ireturn, 1) := dk_172 (dk_at dksX1_next_2 10 rfl rfl)
abbrev cX1_layRoad : ByteArray := prog_16_method_35_code
def yX1_layRoad : MethodName := ⟨RX1, "layRoad", "(IZ)V"⟩
def dkwX1_layRoad_5 : List UInt8 := [167, 255, 192, 177]
abbrev dktX1_layRoad_5 : List UInt8 := dkwX1_layRoad_5 ++ []
def dkwX1_layRoad_4 : List UInt8 := [161, 0, 8, 21, 5, 167, 0, 14, 42, 180, 0, 55, 29, 21, 5, 96, 4, 96, 46, 79, 132, 5, 255]
abbrev dktX1_layRoad_4 : List UInt8 := dkwX1_layRoad_4 ++ dktX1_layRoad_5
def dkwX1_layRoad_3 : List UInt8 := [4, 96, 167, 0, 4, 3, 54, 4, 42, 180, 0, 55, 29, 21, 5, 96, 21, 4, 42, 180, 0, 58, 27, 46]
abbrev dktX1_layRoad_3 : List UInt8 := dkwX1_layRoad_3 ++ dktX1_layRoad_4
def dkwX1_layRoad_2 : List UInt8 := [54, 4, 17, 7, 207, 54, 5, 21, 5, 155, 0, 65, 42, 27, 21, 5, 182, 0, 159, 153, 0, 10, 21, 4]
abbrev dktX1_layRoad_2 : List UInt8 := dkwX1_layRoad_2 ++ dktX1_layRoad_3
def dkwX1_layRoad_1 : List UInt8 := [167, 0, 9, 42, 180, 0, 49, 27, 46, 79, 42, 180, 0, 55, 29, 17, 7, 208, 96, 17, 39, 15, 79, 3]
abbrev dktX1_layRoad_1 : List UInt8 := dkwX1_layRoad_1 ++ dktX1_layRoad_2
def dkwX1_layRoad_0 : List UInt8 := [17, 7, 209, 27, 104, 62, 42, 180, 0, 58, 27, 28, 153, 0, 14, 5, 42, 180, 0, 49, 27, 46, 104]
abbrev dktX1_layRoad_0 : List UInt8 := dkwX1_layRoad_0 ++ dktX1_layRoad_1
theorem dksX1_layRoad_0 : cX1_layRoad.data.toList.drop 0 = dktX1_layRoad_0 := by decide +kernel
theorem dksX1_layRoad_1 : cX1_layRoad.data.toList.drop 23 = dktX1_layRoad_1 := dk_seg dksX1_layRoad_0 23 rfl rfl
theorem dksX1_layRoad_2 : cX1_layRoad.data.toList.drop 47 = dktX1_layRoad_2 := dk_seg dksX1_layRoad_1 24 rfl rfl
theorem dksX1_layRoad_3 : cX1_layRoad.data.toList.drop 71 = dktX1_layRoad_3 := dk_seg dksX1_layRoad_2 24 rfl rfl
theorem dksX1_layRoad_4 : cX1_layRoad.data.toList.drop 95 = dktX1_layRoad_4 := dk_seg dksX1_layRoad_3 24 rfl rfl
theorem dksX1_layRoad_5 : cX1_layRoad.data.toList.drop 118 = dktX1_layRoad_5 := dk_seg dksX1_layRoad_4 23 rfl rfl
theorem dX1_layRoad_0 : decode cX1_layRoad 0 = .ok (.sipush 2001, 3) := dk_17 7 209 (dk_at dksX1_layRoad_0 0 rfl rfl)
theorem dX1_layRoad_3 : decode cX1_layRoad 3 = .ok (.iload_n 1, 1) := dk_27 (dk_at dksX1_layRoad_0 3 rfl rfl)
theorem dX1_layRoad_4 : decode cX1_layRoad 4 = .ok (.imul, 1) := dk_104 (dk_at dksX1_layRoad_0 4 rfl rfl)
theorem dX1_layRoad_5 : decode cX1_layRoad 5 = .ok (.istore_n 3, 1) := dk_62 (dk_at dksX1_layRoad_0 5 rfl rfl)
theorem dX1_layRoad_6 : decode cX1_layRoad 6 = .ok (.aload_n 0, 1) := dk_42 (dk_at dksX1_layRoad_0 6 rfl rfl)
theorem dX1_layRoad_7 : decode cX1_layRoad 7 = .ok (.getfield 58, 3) := dk_180 0 58 (dk_at dksX1_layRoad_0 7 rfl rfl)
theorem dX1_layRoad_10 : decode cX1_layRoad 10 = .ok (.iload_n 1, 1) := dk_27 (dk_at dksX1_layRoad_0 10 rfl rfl)
theorem dX1_layRoad_11 : decode cX1_layRoad 11 = .ok (.iload_n 2, 1) := dk_28 (dk_at dksX1_layRoad_0 11 rfl rfl)
theorem dX1_layRoad_12 : decode cX1_layRoad 12 = .ok (.ifCond .eq 14, 3) := dk_153 0 14 (dk_at dksX1_layRoad_0 12 rfl rfl)
theorem dX1_layRoad_15 : decode cX1_layRoad 15 = .ok (.iconst 2, 1) := dk_5 (dk_at dksX1_layRoad_0 15 rfl rfl)
theorem dX1_layRoad_16 : decode cX1_layRoad 16 = .ok (.aload_n 0, 1) := dk_42 (dk_at dksX1_layRoad_0 16 rfl rfl)
theorem dX1_layRoad_17 : decode cX1_layRoad 17 = .ok (.getfield 49, 3) := dk_180 0 49 (dk_at dksX1_layRoad_0 17 rfl rfl)
theorem dX1_layRoad_20 : decode cX1_layRoad 20 = .ok (.iload_n 1, 1) := dk_27 (dk_at dksX1_layRoad_0 20 rfl rfl)
theorem dX1_layRoad_21 : decode cX1_layRoad 21 = .ok (.iaload, 1) := dk_46 (dk_at dksX1_layRoad_0 21 rfl rfl)
theorem dX1_layRoad_22 : decode cX1_layRoad 22 = .ok (.imul, 1) := dk_104 (dk_at dksX1_layRoad_0 22 rfl rfl)
theorem dX1_layRoad_23 : decode cX1_layRoad 23 = .ok (.goto 9, 3) := dk_167 0 9 (dk_at dksX1_layRoad_1 0 rfl rfl)
theorem dX1_layRoad_26 : decode cX1_layRoad 26 = .ok (.aload_n 0, 1) := dk_42 (dk_at dksX1_layRoad_1 3 rfl rfl)
theorem dX1_layRoad_27 : decode cX1_layRoad 27 = .ok (.getfield 49, 3) := dk_180 0 49 (dk_at dksX1_layRoad_1 4 rfl rfl)
theorem dX1_layRoad_30 : decode cX1_layRoad 30 = .ok (.iload_n 1, 1) := dk_27 (dk_at dksX1_layRoad_1 7 rfl rfl)
theorem dX1_layRoad_31 : decode cX1_layRoad 31 = .ok (.iaload, 1) := dk_46 (dk_at dksX1_layRoad_1 8 rfl rfl)
theorem dX1_layRoad_32 : decode cX1_layRoad 32 = .ok (.iastore, 1) := dk_79 (dk_at dksX1_layRoad_1 9 rfl rfl)
theorem dX1_layRoad_33 : decode cX1_layRoad 33 = .ok (.aload_n 0, 1) := dk_42 (dk_at dksX1_layRoad_1 10 rfl rfl)
theorem dX1_layRoad_34 : decode cX1_layRoad 34 = .ok (.getfield 55, 3) := dk_180 0 55 (dk_at dksX1_layRoad_1 11 rfl rfl)
theorem dX1_layRoad_37 : decode cX1_layRoad 37 = .ok (.iload_n 3, 1) := dk_29 (dk_at dksX1_layRoad_1 14 rfl rfl)
theorem dX1_layRoad_38 : decode cX1_layRoad 38 = .ok (.sipush 2000, 3) := dk_17 7 208 (dk_at dksX1_layRoad_1 15 rfl rfl)
theorem dX1_layRoad_41 : decode cX1_layRoad 41 = .ok (.iadd, 1) := dk_96 (dk_at dksX1_layRoad_1 18 rfl rfl)
theorem dX1_layRoad_42 : decode cX1_layRoad 42 = .ok (.sipush 9999, 3) := dk_17 39 15 (dk_at dksX1_layRoad_1 19 rfl rfl)
theorem dX1_layRoad_45 : decode cX1_layRoad 45 = .ok (.iastore, 1) := dk_79 (dk_at dksX1_layRoad_1 22 rfl rfl)
theorem dX1_layRoad_46 : decode cX1_layRoad 46 = .ok (.iconst 0, 1) := dk_3 (dk_at dksX1_layRoad_1 23 rfl rfl)
theorem dX1_layRoad_47 : decode cX1_layRoad 47 = .ok (.istore 4, 2) := dk_54 4 (dk_at dksX1_layRoad_2 0 rfl rfl)
theorem dX1_layRoad_49 : decode cX1_layRoad 49 = .ok (.sipush 1999, 3) := dk_17 7 207 (dk_at dksX1_layRoad_2 2 rfl rfl)
theorem dX1_layRoad_52 : decode cX1_layRoad 52 = .ok (.istore 5, 2) := dk_54 5 (dk_at dksX1_layRoad_2 5 rfl rfl)
theorem dX1_layRoad_54 : decode cX1_layRoad 54 = .ok (.iload 5, 2) := dk_21 5 (dk_at dksX1_layRoad_2 7 rfl rfl)
theorem dX1_layRoad_56 : decode cX1_layRoad 56 = .ok (.ifCond .lt 65, 3) := dk_155 0 65 (dk_at dksX1_layRoad_2 9 rfl rfl)
theorem dX1_layRoad_59 : decode cX1_layRoad 59 = .ok (.aload_n 0, 1) := dk_42 (dk_at dksX1_layRoad_2 12 rfl rfl)
theorem dX1_layRoad_60 : decode cX1_layRoad 60 = .ok (.iload_n 1, 1) := dk_27 (dk_at dksX1_layRoad_2 13 rfl rfl)
theorem dX1_layRoad_61 : decode cX1_layRoad 61 = .ok (.iload 5, 2) := dk_21 5 (dk_at dksX1_layRoad_2 14 rfl rfl)
theorem dX1_layRoad_63 : decode cX1_layRoad 63 = .ok (.invokevirtual 159, 3) := dk_182 0 159 (dk_at dksX1_layRoad_2 16 rfl rfl)
theorem dX1_layRoad_66 : decode cX1_layRoad 66 = .ok (.ifCond .eq 10, 3) := dk_153 0 10 (dk_at dksX1_layRoad_2 19 rfl rfl)
theorem dX1_layRoad_69 : decode cX1_layRoad 69 = .ok (.iload 4, 2) := dk_21 4 (dk_at dksX1_layRoad_2 22 rfl rfl)
theorem dX1_layRoad_71 : decode cX1_layRoad 71 = .ok (.iconst 1, 1) := dk_4 (dk_at dksX1_layRoad_3 0 rfl rfl)
theorem dX1_layRoad_72 : decode cX1_layRoad 72 = .ok (.iadd, 1) := dk_96 (dk_at dksX1_layRoad_3 1 rfl rfl)
theorem dX1_layRoad_73 : decode cX1_layRoad 73 = .ok (.goto 4, 3) := dk_167 0 4 (dk_at dksX1_layRoad_3 2 rfl rfl)
theorem dX1_layRoad_76 : decode cX1_layRoad 76 = .ok (.iconst 0, 1) := dk_3 (dk_at dksX1_layRoad_3 5 rfl rfl)
theorem dX1_layRoad_77 : decode cX1_layRoad 77 = .ok (.istore 4, 2) := dk_54 4 (dk_at dksX1_layRoad_3 6 rfl rfl)
theorem dX1_layRoad_79 : decode cX1_layRoad 79 = .ok (.aload_n 0, 1) := dk_42 (dk_at dksX1_layRoad_3 8 rfl rfl)
theorem dX1_layRoad_80 : decode cX1_layRoad 80 = .ok (.getfield 55, 3) := dk_180 0 55 (dk_at dksX1_layRoad_3 9 rfl rfl)
theorem dX1_layRoad_83 : decode cX1_layRoad 83 = .ok (.iload_n 3, 1) := dk_29 (dk_at dksX1_layRoad_3 12 rfl rfl)
theorem dX1_layRoad_84 : decode cX1_layRoad 84 = .ok (.iload 5, 2) := dk_21 5 (dk_at dksX1_layRoad_3 13 rfl rfl)
theorem dX1_layRoad_86 : decode cX1_layRoad 86 = .ok (.iadd, 1) := dk_96 (dk_at dksX1_layRoad_3 15 rfl rfl)
theorem dX1_layRoad_87 : decode cX1_layRoad 87 = .ok (.iload 4, 2) := dk_21 4 (dk_at dksX1_layRoad_3 16 rfl rfl)
theorem dX1_layRoad_89 : decode cX1_layRoad 89 = .ok (.aload_n 0, 1) := dk_42 (dk_at dksX1_layRoad_3 18 rfl rfl)
theorem dX1_layRoad_90 : decode cX1_layRoad 90 = .ok (.getfield 58, 3) := dk_180 0 58 (dk_at dksX1_layRoad_3 19 rfl rfl)
theorem dX1_layRoad_93 : decode cX1_layRoad 93 = .ok (.iload_n 1, 1) := dk_27 (dk_at dksX1_layRoad_3 22 rfl rfl)
theorem dX1_layRoad_94 : decode cX1_layRoad 94 = .ok (.iaload, 1) := dk_46 (dk_at dksX1_layRoad_3 23 rfl rfl)
theorem dX1_layRoad_95 : decode cX1_layRoad 95 = .ok (.if_icmp .lt 8, 3) := dk_161 0 8 (dk_at dksX1_layRoad_4 0 rfl rfl)
theorem dX1_layRoad_98 : decode cX1_layRoad 98 = .ok (.iload 5, 2) := dk_21 5 (dk_at dksX1_layRoad_4 3 rfl rfl)
theorem dX1_layRoad_100 : decode cX1_layRoad 100 = .ok (.goto 14, 3) := dk_167 0 14 (dk_at dksX1_layRoad_4 5 rfl rfl)
theorem dX1_layRoad_103 : decode cX1_layRoad 103 = .ok (.aload_n 0, 1) := dk_42 (dk_at dksX1_layRoad_4 8 rfl rfl)
theorem dX1_layRoad_104 : decode cX1_layRoad 104 = .ok (.getfield 55, 3) := dk_180 0 55 (dk_at dksX1_layRoad_4 9 rfl rfl)
theorem dX1_layRoad_107 : decode cX1_layRoad 107 = .ok (.iload_n 3, 1) := dk_29 (dk_at dksX1_layRoad_4 12 rfl rfl)
theorem dX1_layRoad_108 : decode cX1_layRoad 108 = .ok (.iload 5, 2) := dk_21 5 (dk_at dksX1_layRoad_4 13 rfl rfl)
theorem dX1_layRoad_110 : decode cX1_layRoad 110 = .ok (.iadd, 1) := dk_96 (dk_at dksX1_layRoad_4 15 rfl rfl)
theorem dX1_layRoad_111 : decode cX1_layRoad 111 = .ok (.iconst 1, 1) := dk_4 (dk_at dksX1_layRoad_4 16 rfl rfl)
theorem dX1_layRoad_112 : decode cX1_layRoad 112 = .ok (.iadd, 1) := dk_96 (dk_at dksX1_layRoad_4 17 rfl rfl)
theorem dX1_layRoad_113 : decode cX1_layRoad 113 = .ok (.iaload, 1) := dk_46 (dk_at dksX1_layRoad_4 18 rfl rfl)
theorem dX1_layRoad_114 : decode cX1_layRoad 114 = .ok (.iastore, 1) := dk_79 (dk_at dksX1_layRoad_4 19 rfl rfl)
theorem dX1_layRoad_115 : decode cX1_layRoad 115 = .ok (.iinc 5 (-1), 3) := dk_132 5 255 (dk_at dksX1_layRoad_4 20 rfl rfl)
theorem dX1_layRoad_118 : decode cX1_layRoad 118 = .ok (.goto (-64), 3) := dk_167 255 192 (dk_at dksX1_layRoad_5 0 rfl rfl)
theorem dX1_layRoad_121 : decode cX1_layRoad 121 = .ok (.return_, 1) := dk_177 (dk_at dksX1_layRoad_5 3 rfl rfl)
abbrev cX1_soonest : ByteArray := prog_16_method_40_code
def yX1_soonest : MethodName := ⟨RX1, "soonest", "(IIIZ)I"⟩
def dkwX1_soonest_2 : List UInt8 := [184, 0, 182, 172]
abbrev dktX1_soonest_2 : List UInt8 := dkwX1_soonest_2 ++ []
def dkwX1_soonest_1 : List UInt8 := [154, 0, 6, 16, 254, 172, 42, 21, 4, 182, 0, 174, 42, 27, 29, 182, 0, 178, 42, 180, 0, 61, 28, 46]
abbrev dktX1_soonest_1 : List UInt8 := dkwX1_soonest_1 ++ dktX1_soonest_2
def dkwX1_soonest_0 : List UInt8 := [42, 27, 182, 0, 150, 153, 0, 11, 42, 28, 182, 0, 150, 154, 0, 5, 2, 172, 29, 184, 0, 137]
abbrev dktX1_soonest_0 : List UInt8 := dkwX1_soonest_0 ++ dktX1_soonest_1
theorem dksX1_soonest_0 : cX1_soonest.data.toList.drop 0 = dktX1_soonest_0 := by decide +kernel
theorem dksX1_soonest_1 : cX1_soonest.data.toList.drop 22 = dktX1_soonest_1 := dk_seg dksX1_soonest_0 22 rfl rfl
theorem dksX1_soonest_2 : cX1_soonest.data.toList.drop 46 = dktX1_soonest_2 := dk_seg dksX1_soonest_1 24 rfl rfl
theorem dX1_soonest_0 : decode cX1_soonest 0 = .ok (.aload_n 0, 1) := dk_42 (dk_at dksX1_soonest_0 0 rfl rfl)
theorem dX1_soonest_1 : decode cX1_soonest 1 = .ok (.iload_n 1, 1) := dk_27 (dk_at dksX1_soonest_0 1 rfl rfl)
theorem dX1_soonest_2 : decode cX1_soonest 2 = .ok (.invokevirtual 150, 3) := dk_182 0 150 (dk_at dksX1_soonest_0 2 rfl rfl)
theorem dX1_soonest_5 : decode cX1_soonest 5 = .ok (.ifCond .eq 11, 3) := dk_153 0 11 (dk_at dksX1_soonest_0 5 rfl rfl)
theorem dX1_soonest_8 : decode cX1_soonest 8 = .ok (.aload_n 0, 1) := dk_42 (dk_at dksX1_soonest_0 8 rfl rfl)
theorem dX1_soonest_9 : decode cX1_soonest 9 = .ok (.iload_n 2, 1) := dk_28 (dk_at dksX1_soonest_0 9 rfl rfl)
theorem dX1_soonest_10 : decode cX1_soonest 10 = .ok (.invokevirtual 150, 3) := dk_182 0 150 (dk_at dksX1_soonest_0 10 rfl rfl)
theorem dX1_soonest_13 : decode cX1_soonest 13 = .ok (.ifCond .ne 5, 3) := dk_154 0 5 (dk_at dksX1_soonest_0 13 rfl rfl)
theorem dX1_soonest_16 : decode cX1_soonest 16 = .ok (.iconst (-1), 1) := dk_2 (dk_at dksX1_soonest_0 16 rfl rfl)
theorem dX1_soonest_17 : decode cX1_soonest 17 = .ok (.ireturn, 1) := dk_172 (dk_at dksX1_soonest_0 17 rfl rfl)
theorem dX1_soonest_18 : decode cX1_soonest 18 = .ok (.iload_n 3, 1) := dk_29 (dk_at dksX1_soonest_0 18 rfl rfl)
theorem dX1_soonest_19 : decode cX1_soonest 19 = .ok (.invokestatic 137, 3) := dk_184 0 137 (dk_at dksX1_soonest_0 19 rfl rfl)
theorem dX1_soonest_22 : decode cX1_soonest 22 = .ok (.ifCond .ne 6, 3) := dk_154 0 6 (dk_at dksX1_soonest_1 0 rfl rfl)
theorem dX1_soonest_25 : decode cX1_soonest 25 = .ok (.bipush (-2), 2) := dk_16 254 (dk_at dksX1_soonest_1 3 rfl rfl)
theorem dX1_soonest_27 : decode cX1_soonest 27 = .ok (.ireturn, 1) := dk_172 (dk_at dksX1_soonest_1 5 rfl rfl)
theorem dX1_soonest_28 : decode cX1_soonest 28 = .ok (.aload_n 0, 1) := dk_42 (dk_at dksX1_soonest_1 6 rfl rfl)
theorem dX1_soonest_29 : decode cX1_soonest 29 = .ok (.iload 4, 2) := dk_21 4 (dk_at dksX1_soonest_1 7 rfl rfl)
theorem dX1_soonest_31 : decode cX1_soonest 31 = .ok (.invokevirtual 174, 3) := dk_182 0 174 (dk_at dksX1_soonest_1 9 rfl rfl)
theorem dX1_soonest_34 : decode cX1_soonest 34 = .ok (.aload_n 0, 1) := dk_42 (dk_at dksX1_soonest_1 12 rfl rfl)
theorem dX1_soonest_35 : decode cX1_soonest 35 = .ok (.iload_n 1, 1) := dk_27 (dk_at dksX1_soonest_1 13 rfl rfl)
theorem dX1_soonest_36 : decode cX1_soonest 36 = .ok (.iload_n 3, 1) := dk_29 (dk_at dksX1_soonest_1 14 rfl rfl)
theorem dX1_soonest_37 : decode cX1_soonest 37 = .ok (.invokevirtual 178, 3) := dk_182 0 178 (dk_at dksX1_soonest_1 15 rfl rfl)
theorem dX1_soonest_40 : decode cX1_soonest 40 = .ok (.aload_n 0, 1) := dk_42 (dk_at dksX1_soonest_1 18 rfl rfl)
theorem dX1_soonest_41 : decode cX1_soonest 41 = .ok (.getfield 61, 3) := dk_180 0 61 (dk_at dksX1_soonest_1 19 rfl rfl)
theorem dX1_soonest_44 : decode cX1_soonest 44 = .ok (.iload_n 2, 1) := dk_28 (dk_at dksX1_soonest_1 22 rfl rfl)
theorem dX1_soonest_45 : decode cX1_soonest 45 = .ok (.iaload, 1) := dk_46 (dk_at dksX1_soonest_1 23 rfl rfl)
theorem dX1_soonest_46 : decode cX1_soonest 46 = .ok (.invokestatic 182, 3) := dk_184 0 182 (dk_at dksX1_soonest_2 0 rfl rfl)
theorem dX1_soonest_49 : decode cX1_soonest 49 = .ok (.ireturn, 1) := dk_172 (dk_at dksX1_soonest_2 3 rfl rfl)
abbrev cX1_layRoads : ByteArray := prog_16_method_34_code
def yX1_layRoads : MethodName := ⟨RX1, "layRoads", "(Z)V"⟩
def dkwX1_layRoads_0 : List UInt8 := [3, 61, 28, 42, 180, 0, 123, 162, 0, 15, 42, 28, 27, 182, 0, 166, 132, 2, 1, 167, 255, 239, 177]
abbrev dktX1_layRoads_0 : List UInt8 := dkwX1_layRoads_0 ++ []
theorem dksX1_layRoads_0 : cX1_layRoads.data.toList.drop 0 = dktX1_layRoads_0 := by decide +kernel
theorem dX1_layRoads_0 : decode cX1_layRoads 0 = .ok (.iconst 0, 1) := dk_3 (dk_at dksX1_layRoads_0 0 rfl rfl)
theorem dX1_layRoads_1 : decode cX1_layRoads 1 = .ok (.istore_n 2, 1) := dk_61 (dk_at dksX1_layRoads_0 1 rfl rfl)
theorem dX1_layRoads_2 : decode cX1_layRoads 2 = .ok (.iload_n 2, 1) := dk_28 (dk_at dksX1_layRoads_0 2 rfl rfl)
theorem dX1_layRoads_3 : decode cX1_layRoads 3 = .ok (.aload_n 0, 1) := dk_42 (dk_at dksX1_layRoads_0 3 rfl rfl)
theorem dX1_layRoads_4 : decode cX1_layRoads 4 = .ok (.getfield 123, 3) := dk_180 0 123 (dk_at dksX1_layRoads_0 4 rfl rfl)
theorem dX1_layRoads_7 : decode cX1_layRoads 7 = .ok (.if_icmp .ge 15, 3) := dk_162 0 15 (dk_at dksX1_layRoads_0 7 rfl rfl)
theorem dX1_layRoads_10 : decode cX1_layRoads 10 = .ok (.aload_n 0, 1) := dk_42 (dk_at dksX1_layRoads_0 10 rfl rfl)
theorem dX1_layRoads_11 : decode cX1_layRoads 11 = .ok (.iload_n 2, 1) := dk_28 (dk_at dksX1_layRoads_0 11 rfl rfl)
theorem dX1_layRoads_12 : decode cX1_layRoads 12 = .ok (.iload_n 1, 1) := dk_27 (dk_at dksX1_layRoads_0 12 rfl rfl)
theorem dX1_layRoads_13 : decode cX1_layRoads 13 = .ok (.invokevirtual 166, 3) := dk_182 0 166 (dk_at dksX1_layRoads_0 13 rfl rfl)
theorem dX1_layRoads_16 : decode cX1_layRoads 16 = .ok (.iinc 2 1, 3) := dk_132 2 1 (dk_at dksX1_layRoads_0 16 rfl rfl)
theorem dX1_layRoads_19 : decode cX1_layRoads 19 = .ok (.goto (-17), 3) := dk_167 255 239 (dk_at dksX1_layRoads_0 19 rfl rfl)
theorem dX1_layRoads_22 : decode cX1_layRoads 22 = .ok (.return_, 1) := dk_177 (dk_at dksX1_layRoads_0 22 rfl rfl)
abbrev cX1_findThere : ByteArray := prog_16_method_37_code
def yX1_findThere : MethodName := ⟨RX1, "findThere", "(II)V"⟩
def dkwX1_findThere_4 : List UInt8 := [182, 0, 170, 132, 4, 1, 167, 255, 204, 132, 3, 1, 167, 255, 187, 177]
abbrev dktX1_findThere_4 : List UInt8 := dkwX1_findThere_4 ++ []
def dkwX1_findThere_3 : List UInt8 := [21, 4, 46, 182, 0, 170, 42, 21, 4, 42, 180, 0, 43, 21, 4, 46, 42, 180, 0, 40, 21, 4, 46]
abbrev dktX1_findThere_3 : List UInt8 := dkwX1_findThere_3 ++ dktX1_findThere_4
def dkwX1_findThere_2 : List UInt8 := [21, 4, 42, 180, 0, 123, 162, 0, 49, 42, 21, 4, 42, 180, 0, 40, 21, 4, 46, 42, 180, 0, 43]
abbrev dktX1_findThere_2 : List UInt8 := dkwX1_findThere_2 ++ dktX1_findThere_3
def dkwX1_findThere_1 : List UInt8 := [17, 39, 15, 79, 132, 3, 1, 167, 255, 227, 3, 62, 29, 42, 180, 0, 86, 162, 0, 67, 3, 54, 4]
abbrev dktX1_findThere_1 : List UInt8 := dkwX1_findThere_1 ++ dktX1_findThere_2
def dkwX1_findThere_0 : List UInt8 := [3, 62, 29, 42, 180, 0, 86, 162, 0, 27, 42, 180, 0, 61, 29, 29, 27, 160, 0, 7, 28, 167, 0, 6]
abbrev dktX1_findThere_0 : List UInt8 := dkwX1_findThere_0 ++ dktX1_findThere_1
theorem dksX1_findThere_0 : cX1_findThere.data.toList.drop 0 = dktX1_findThere_0 := by decide +kernel
theorem dksX1_findThere_1 : cX1_findThere.data.toList.drop 24 = dktX1_findThere_1 := dk_seg dksX1_findThere_0 24 rfl rfl
theorem dksX1_findThere_2 : cX1_findThere.data.toList.drop 47 = dktX1_findThere_2 := dk_seg dksX1_findThere_1 23 rfl rfl
theorem dksX1_findThere_3 : cX1_findThere.data.toList.drop 70 = dktX1_findThere_3 := dk_seg dksX1_findThere_2 23 rfl rfl
theorem dksX1_findThere_4 : cX1_findThere.data.toList.drop 93 = dktX1_findThere_4 := dk_seg dksX1_findThere_3 23 rfl rfl
theorem dX1_findThere_0 : decode cX1_findThere 0 = .ok (.iconst 0, 1) := dk_3 (dk_at dksX1_findThere_0 0 rfl rfl)
theorem dX1_findThere_1 : decode cX1_findThere 1 = .ok (.istore_n 3, 1) := dk_62 (dk_at dksX1_findThere_0 1 rfl rfl)
theorem dX1_findThere_2 : decode cX1_findThere 2 = .ok (.iload_n 3, 1) := dk_29 (dk_at dksX1_findThere_0 2 rfl rfl)
theorem dX1_findThere_3 : decode cX1_findThere 3 = .ok (.aload_n 0, 1) := dk_42 (dk_at dksX1_findThere_0 3 rfl rfl)
theorem dX1_findThere_4 : decode cX1_findThere 4 = .ok (.getfield 86, 3) := dk_180 0 86 (dk_at dksX1_findThere_0 4 rfl rfl)
theorem dX1_findThere_7 : decode cX1_findThere 7 = .ok (.if_icmp .ge 27, 3) := dk_162 0 27 (dk_at dksX1_findThere_0 7 rfl rfl)
theorem dX1_findThere_10 : decode cX1_findThere 10 = .ok (.aload_n 0, 1) := dk_42 (dk_at dksX1_findThere_0 10 rfl rfl)
theorem dX1_findThere_11 : decode cX1_findThere 11 = .ok (.getfield 61, 3) := dk_180 0 61 (dk_at dksX1_findThere_0 11 rfl rfl)
theorem dX1_findThere_14 : decode cX1_findThere 14 = .ok (.iload_n 3, 1) := dk_29 (dk_at dksX1_findThere_0 14 rfl rfl)
theorem dX1_findThere_15 : decode cX1_findThere 15 = .ok (.iload_n 3, 1) := dk_29 (dk_at dksX1_findThere_0 15 rfl rfl)
theorem dX1_findThere_16 : decode cX1_findThere 16 = .ok (.iload_n 1, 1) := dk_27 (dk_at dksX1_findThere_0 16 rfl rfl)
theorem dX1_findThere_17 : decode cX1_findThere 17 = .ok (.if_icmp .ne 7, 3) := dk_160 0 7 (dk_at dksX1_findThere_0 17 rfl rfl)
theorem dX1_findThere_20 : decode cX1_findThere 20 = .ok (.iload_n 2, 1) := dk_28 (dk_at dksX1_findThere_0 20 rfl rfl)
theorem dX1_findThere_21 : decode cX1_findThere 21 = .ok (.goto 6, 3) := dk_167 0 6 (dk_at dksX1_findThere_0 21 rfl rfl)
theorem dX1_findThere_24 : decode cX1_findThere 24 = .ok (.sipush 9999, 3) := dk_17 39 15 (dk_at dksX1_findThere_1 0 rfl rfl)
theorem dX1_findThere_27 : decode cX1_findThere 27 = .ok (.iastore, 1) := dk_79 (dk_at dksX1_findThere_1 3 rfl rfl)
theorem dX1_findThere_28 : decode cX1_findThere 28 = .ok (.iinc 3 1, 3) := dk_132 3 1 (dk_at dksX1_findThere_1 4 rfl rfl)
theorem dX1_findThere_31 : decode cX1_findThere 31 = .ok (.goto (-29), 3) := dk_167 255 227 (dk_at dksX1_findThere_1 7 rfl rfl)
theorem dX1_findThere_34 : decode cX1_findThere 34 = .ok (.iconst 0, 1) := dk_3 (dk_at dksX1_findThere_1 10 rfl rfl)
theorem dX1_findThere_35 : decode cX1_findThere 35 = .ok (.istore_n 3, 1) := dk_62 (dk_at dksX1_findThere_1 11 rfl rfl)
theorem dX1_findThere_36 : decode cX1_findThere 36 = .ok (.iload_n 3, 1) := dk_29 (dk_at dksX1_findThere_1 12 rfl rfl)
theorem dX1_findThere_37 : decode cX1_findThere 37 = .ok (.aload_n 0, 1) := dk_42 (dk_at dksX1_findThere_1 13 rfl rfl)
theorem dX1_findThere_38 : decode cX1_findThere 38 = .ok (.getfield 86, 3) := dk_180 0 86 (dk_at dksX1_findThere_1 14 rfl rfl)
theorem dX1_findThere_41 : decode cX1_findThere 41 = .ok (.if_icmp .ge 67, 3) := dk_162 0 67 (dk_at dksX1_findThere_1 17 rfl rfl)
theorem dX1_findThere_44 : decode cX1_findThere 44 = .ok (.iconst 0, 1) := dk_3 (dk_at dksX1_findThere_1 20 rfl rfl)
theorem dX1_findThere_45 : decode cX1_findThere 45 = .ok (.istore 4, 2) := dk_54 4 (dk_at dksX1_findThere_1 21 rfl rfl)
theorem dX1_findThere_47 : decode cX1_findThere 47 = .ok (.iload 4, 2) := dk_21 4 (dk_at dksX1_findThere_2 0 rfl rfl)
theorem dX1_findThere_49 : decode cX1_findThere 49 = .ok (.aload_n 0, 1) := dk_42 (dk_at dksX1_findThere_2 2 rfl rfl)
theorem dX1_findThere_50 : decode cX1_findThere 50 = .ok (.getfield 123, 3) := dk_180 0 123 (dk_at dksX1_findThere_2 3 rfl rfl)
theorem dX1_findThere_53 : decode cX1_findThere 53 = .ok (.if_icmp .ge 49, 3) := dk_162 0 49 (dk_at dksX1_findThere_2 6 rfl rfl)
theorem dX1_findThere_56 : decode cX1_findThere 56 = .ok (.aload_n 0, 1) := dk_42 (dk_at dksX1_findThere_2 9 rfl rfl)
theorem dX1_findThere_57 : decode cX1_findThere 57 = .ok (.iload 4, 2) := dk_21 4 (dk_at dksX1_findThere_2 10 rfl rfl)
theorem dX1_findThere_59 : decode cX1_findThere 59 = .ok (.aload_n 0, 1) := dk_42 (dk_at dksX1_findThere_2 12 rfl rfl)
theorem dX1_findThere_60 : decode cX1_findThere 60 = .ok (.getfield 40, 3) := dk_180 0 40 (dk_at dksX1_findThere_2 13 rfl rfl)
theorem dX1_findThere_63 : decode cX1_findThere 63 = .ok (.iload 4, 2) := dk_21 4 (dk_at dksX1_findThere_2 16 rfl rfl)
theorem dX1_findThere_65 : decode cX1_findThere 65 = .ok (.iaload, 1) := dk_46 (dk_at dksX1_findThere_2 18 rfl rfl)
theorem dX1_findThere_66 : decode cX1_findThere 66 = .ok (.aload_n 0, 1) := dk_42 (dk_at dksX1_findThere_2 19 rfl rfl)
theorem dX1_findThere_67 : decode cX1_findThere 67 = .ok (.getfield 43, 3) := dk_180 0 43 (dk_at dksX1_findThere_2 20 rfl rfl)
theorem dX1_findThere_70 : decode cX1_findThere 70 = .ok (.iload 4, 2) := dk_21 4 (dk_at dksX1_findThere_3 0 rfl rfl)
theorem dX1_findThere_72 : decode cX1_findThere 72 = .ok (.iaload, 1) := dk_46 (dk_at dksX1_findThere_3 2 rfl rfl)
theorem dX1_findThere_73 : decode cX1_findThere 73 = .ok (.invokevirtual 170, 3) := dk_182 0 170 (dk_at dksX1_findThere_3 3 rfl rfl)
theorem dX1_findThere_76 : decode cX1_findThere 76 = .ok (.aload_n 0, 1) := dk_42 (dk_at dksX1_findThere_3 6 rfl rfl)
theorem dX1_findThere_77 : decode cX1_findThere 77 = .ok (.iload 4, 2) := dk_21 4 (dk_at dksX1_findThere_3 7 rfl rfl)
theorem dX1_findThere_79 : decode cX1_findThere 79 = .ok (.aload_n 0, 1) := dk_42 (dk_at dksX1_findThere_3 9 rfl rfl)
theorem dX1_findThere_80 : decode cX1_findThere 80 = .ok (.getfield 43, 3) := dk_180 0 43 (dk_at dksX1_findThere_3 10 rfl rfl)
theorem dX1_findThere_83 : decode cX1_findThere 83 = .ok (.iload 4, 2) := dk_21 4 (dk_at dksX1_findThere_3 13 rfl rfl)
theorem dX1_findThere_85 : decode cX1_findThere 85 = .ok (.iaload, 1) := dk_46 (dk_at dksX1_findThere_3 15 rfl rfl)
theorem dX1_findThere_86 : decode cX1_findThere 86 = .ok (.aload_n 0, 1) := dk_42 (dk_at dksX1_findThere_3 16 rfl rfl)
theorem dX1_findThere_87 : decode cX1_findThere 87 = .ok (.getfield 40, 3) := dk_180 0 40 (dk_at dksX1_findThere_3 17 rfl rfl)
theorem dX1_findThere_90 : decode cX1_findThere 90 = .ok (.iload 4, 2) := dk_21 4 (dk_at dksX1_findThere_3 20 rfl rfl)
theorem dX1_findThere_92 : decode cX1_findThere 92 = .ok (.iaload, 1) := dk_46 (dk_at dksX1_findThere_3 22 rfl rfl)
theorem dX1_findThere_93 : decode cX1_findThere 93 = .ok (.invokevirtual 170, 3) := dk_182 0 170 (dk_at dksX1_findThere_4 0 rfl rfl)
theorem dX1_findThere_96 : decode cX1_findThere 96 = .ok (.iinc 4 1, 3) := dk_132 4 1 (dk_at dksX1_findThere_4 3 rfl rfl)
theorem dX1_findThere_99 : decode cX1_findThere 99 = .ok (.goto (-52), 3) := dk_167 255 204 (dk_at dksX1_findThere_4 6 rfl rfl)
theorem dX1_findThere_102 : decode cX1_findThere 102 = .ok (.iinc 3 1, 3) := dk_132 3 1 (dk_at dksX1_findThere_4 9 rfl rfl)
theorem dX1_findThere_105 : decode cX1_findThere 105 = .ok (.goto (-69), 3) := dk_167 255 187 (dk_at dksX1_findThere_4 12 rfl rfl)
theorem dX1_findThere_108 : decode cX1_findThere 108 = .ok (.return_, 1) := dk_177 (dk_at dksX1_findThere_4 15 rfl rfl)
abbrev cX1_cross : ByteArray := prog_16_method_38_code
def yX1_cross : MethodName := ⟨RX1, "cross", "(III)V"⟩
def dkwX1_cross_3 : List UInt8 := [96, 79, 177]
abbrev dktX1_cross_3 : List UInt8 := dkwX1_cross_3 ++ []
def dkwX1_cross_2 : List UInt8 := [46, 96, 42, 180, 0, 61, 29, 46, 162, 0, 18, 42, 180, 0, 61, 29, 21, 4, 42, 180, 0, 58, 27, 46]
abbrev dktX1_cross_2 : List UInt8 := dkwX1_cross_2 ++ dktX1_cross_3
def dkwX1_cross_1 : List UInt8 := [180, 0, 61, 28, 46, 96, 46, 54, 4, 21, 4, 17, 39, 15, 159, 0, 36, 21, 4, 42, 180, 0, 58, 27]
abbrev dktX1_cross_1 : List UInt8 := dkwX1_cross_1 ++ dktX1_cross_2
def dkwX1_cross_0 : List UInt8 := [42, 180, 0, 61, 28, 46, 17, 7, 208, 164, 0, 4, 177, 42, 180, 0, 55, 17, 7, 209, 27, 104, 42]
abbrev dktX1_cross_0 : List UInt8 := dkwX1_cross_0 ++ dktX1_cross_1
theorem dksX1_cross_0 : cX1_cross.data.toList.drop 0 = dktX1_cross_0 := by decide +kernel
theorem dksX1_cross_1 : cX1_cross.data.toList.drop 23 = dktX1_cross_1 := dk_seg dksX1_cross_0 23 rfl rfl
theorem dksX1_cross_2 : cX1_cross.data.toList.drop 47 = dktX1_cross_2 := dk_seg dksX1_cross_1 24 rfl rfl
theorem dksX1_cross_3 : cX1_cross.data.toList.drop 71 = dktX1_cross_3 := dk_seg dksX1_cross_2 24 rfl rfl
theorem dX1_cross_0 : decode cX1_cross 0 = .ok (.aload_n 0, 1) := dk_42 (dk_at dksX1_cross_0 0 rfl rfl)
theorem dX1_cross_1 : decode cX1_cross 1 = .ok (.getfield 61, 3) := dk_180 0 61 (dk_at dksX1_cross_0 1 rfl rfl)
theorem dX1_cross_4 : decode cX1_cross 4 = .ok (.iload_n 2, 1) := dk_28 (dk_at dksX1_cross_0 4 rfl rfl)
theorem dX1_cross_5 : decode cX1_cross 5 = .ok (.iaload, 1) := dk_46 (dk_at dksX1_cross_0 5 rfl rfl)
theorem dX1_cross_6 : decode cX1_cross 6 = .ok (.sipush 2000, 3) := dk_17 7 208 (dk_at dksX1_cross_0 6 rfl rfl)
theorem dX1_cross_9 : decode cX1_cross 9 = .ok (.if_icmp .le 4, 3) := dk_164 0 4 (dk_at dksX1_cross_0 9 rfl rfl)
theorem dX1_cross_12 : decode cX1_cross 12 = .ok (.return_, 1) := dk_177 (dk_at dksX1_cross_0 12 rfl rfl)
theorem dX1_cross_13 : decode cX1_cross 13 = .ok (.aload_n 0, 1) := dk_42 (dk_at dksX1_cross_0 13 rfl rfl)
theorem dX1_cross_14 : decode cX1_cross 14 = .ok (.getfield 55, 3) := dk_180 0 55 (dk_at dksX1_cross_0 14 rfl rfl)
theorem dX1_cross_17 : decode cX1_cross 17 = .ok (.sipush 2001, 3) := dk_17 7 209 (dk_at dksX1_cross_0 17 rfl rfl)
theorem dX1_cross_20 : decode cX1_cross 20 = .ok (.iload_n 1, 1) := dk_27 (dk_at dksX1_cross_0 20 rfl rfl)
theorem dX1_cross_21 : decode cX1_cross 21 = .ok (.imul, 1) := dk_104 (dk_at dksX1_cross_0 21 rfl rfl)
theorem dX1_cross_22 : decode cX1_cross 22 = .ok (.aload_n 0, 1) := dk_42 (dk_at dksX1_cross_0 22 rfl rfl)
theorem dX1_cross_23 : decode cX1_cross 23 = .ok (.getfield 61, 3) := dk_180 0 61 (dk_at dksX1_cross_1 0 rfl rfl)
theorem dX1_cross_26 : decode cX1_cross 26 = .ok (.iload_n 2, 1) := dk_28 (dk_at dksX1_cross_1 3 rfl rfl)
theorem dX1_cross_27 : decode cX1_cross 27 = .ok (.iaload, 1) := dk_46 (dk_at dksX1_cross_1 4 rfl rfl)
theorem dX1_cross_28 : decode cX1_cross 28 = .ok (.iadd, 1) := dk_96 (dk_at dksX1_cross_1 5 rfl rfl)
theorem dX1_cross_29 : decode cX1_cross 29 = .ok (.iaload, 1) := dk_46 (dk_at dksX1_cross_1 6 rfl rfl)
theorem dX1_cross_30 : decode cX1_cross 30 = .ok (.istore 4, 2) := dk_54 4 (dk_at dksX1_cross_1 7 rfl rfl)
theorem dX1_cross_32 : decode cX1_cross 32 = .ok (.iload 4, 2) := dk_21 4 (dk_at dksX1_cross_1 9 rfl rfl)
theorem dX1_cross_34 : decode cX1_cross 34 = .ok (.sipush 9999, 3) := dk_17 39 15 (dk_at dksX1_cross_1 11 rfl rfl)
theorem dX1_cross_37 : decode cX1_cross 37 = .ok (.if_icmp .eq 36, 3) := dk_159 0 36 (dk_at dksX1_cross_1 14 rfl rfl)
theorem dX1_cross_40 : decode cX1_cross 40 = .ok (.iload 4, 2) := dk_21 4 (dk_at dksX1_cross_1 17 rfl rfl)
theorem dX1_cross_42 : decode cX1_cross 42 = .ok (.aload_n 0, 1) := dk_42 (dk_at dksX1_cross_1 19 rfl rfl)
theorem dX1_cross_43 : decode cX1_cross 43 = .ok (.getfield 58, 3) := dk_180 0 58 (dk_at dksX1_cross_1 20 rfl rfl)
theorem dX1_cross_46 : decode cX1_cross 46 = .ok (.iload_n 1, 1) := dk_27 (dk_at dksX1_cross_1 23 rfl rfl)
theorem dX1_cross_47 : decode cX1_cross 47 = .ok (.iaload, 1) := dk_46 (dk_at dksX1_cross_2 0 rfl rfl)
theorem dX1_cross_48 : decode cX1_cross 48 = .ok (.iadd, 1) := dk_96 (dk_at dksX1_cross_2 1 rfl rfl)
theorem dX1_cross_49 : decode cX1_cross 49 = .ok (.aload_n 0, 1) := dk_42 (dk_at dksX1_cross_2 2 rfl rfl)
theorem dX1_cross_50 : decode cX1_cross 50 = .ok (.getfield 61, 3) := dk_180 0 61 (dk_at dksX1_cross_2 3 rfl rfl)
theorem dX1_cross_53 : decode cX1_cross 53 = .ok (.iload_n 3, 1) := dk_29 (dk_at dksX1_cross_2 6 rfl rfl)
theorem dX1_cross_54 : decode cX1_cross 54 = .ok (.iaload, 1) := dk_46 (dk_at dksX1_cross_2 7 rfl rfl)
theorem dX1_cross_55 : decode cX1_cross 55 = .ok (.if_icmp .ge 18, 3) := dk_162 0 18 (dk_at dksX1_cross_2 8 rfl rfl)
theorem dX1_cross_58 : decode cX1_cross 58 = .ok (.aload_n 0, 1) := dk_42 (dk_at dksX1_cross_2 11 rfl rfl)
theorem dX1_cross_59 : decode cX1_cross 59 = .ok (.getfield 61, 3) := dk_180 0 61 (dk_at dksX1_cross_2 12 rfl rfl)
theorem dX1_cross_62 : decode cX1_cross 62 = .ok (.iload_n 3, 1) := dk_29 (dk_at dksX1_cross_2 15 rfl rfl)
theorem dX1_cross_63 : decode cX1_cross 63 = .ok (.iload 4, 2) := dk_21 4 (dk_at dksX1_cross_2 16 rfl rfl)
theorem dX1_cross_65 : decode cX1_cross 65 = .ok (.aload_n 0, 1) := dk_42 (dk_at dksX1_cross_2 18 rfl rfl)
theorem dX1_cross_66 : decode cX1_cross 66 = .ok (.getfield 58, 3) := dk_180 0 58 (dk_at dksX1_cross_2 19 rfl rfl)
theorem dX1_cross_69 : decode cX1_cross 69 = .ok (.iload_n 1, 1) := dk_27 (dk_at dksX1_cross_2 22 rfl rfl)
theorem dX1_cross_70 : decode cX1_cross 70 = .ok (.iaload, 1) := dk_46 (dk_at dksX1_cross_2 23 rfl rfl)
theorem dX1_cross_71 : decode cX1_cross 71 = .ok (.iadd, 1) := dk_96 (dk_at dksX1_cross_3 0 rfl rfl)
theorem dX1_cross_72 : decode cX1_cross 72 = .ok (.iastore, 1) := dk_79 (dk_at dksX1_cross_3 1 rfl rfl)
theorem dX1_cross_73 : decode cX1_cross 73 = .ok (.return_, 1) := dk_177 (dk_at dksX1_cross_3 2 rfl rfl)
abbrev cX1_toldHour : ByteArray := prog_16_method_39_code
def yX1_toldHour : MethodName := ⟨RX1, "toldHour", "(I)I"⟩
def dkwX1_toldHour_0 : List UInt8 := [26, 17, 7, 208, 164, 0, 8, 16, 247, 167, 0, 4, 26, 172]
abbrev dktX1_toldHour_0 : List UInt8 := dkwX1_toldHour_0 ++ []
theorem dksX1_toldHour_0 : cX1_toldHour.data.toList.drop 0 = dktX1_toldHour_0 := by decide +kernel
theorem dX1_toldHour_0 : decode cX1_toldHour 0 = .ok (.iload_n 0, 1) := dk_26 (dk_at dksX1_toldHour_0 0 rfl rfl)
theorem dX1_toldHour_1 : decode cX1_toldHour 1 = .ok (.sipush 2000, 3) := dk_17 7 208 (dk_at dksX1_toldHour_0 1 rfl rfl)
theorem dX1_toldHour_4 : decode cX1_toldHour 4 = .ok (.if_icmp .le 8, 3) := dk_164 0 8 (dk_at dksX1_toldHour_0 4 rfl rfl)
theorem dX1_toldHour_7 : decode cX1_toldHour 7 = .ok (.bipush (-9), 2) := dk_16 247 (dk_at dksX1_toldHour_0 7 rfl rfl)
theorem dX1_toldHour_9 : decode cX1_toldHour 9 = .ok (.goto 4, 3) := dk_167 0 4 (dk_at dksX1_toldHour_0 9 rfl rfl)
theorem dX1_toldHour_12 : decode cX1_toldHour 12 = .ok (.iload_n 0, 1) := dk_26 (dk_at dksX1_toldHour_0 12 rfl rfl)
theorem dX1_toldHour_13 : decode cX1_toldHour 13 = .ok (.ireturn, 1) := dk_172 (dk_at dksX1_toldHour_0 13 rfl rfl)
abbrev cX1_way : ByteArray := prog_16_method_43_code
def yX1_way : MethodName := ⟨RX1, "way", "(IIIZI)I"⟩
def dkwX1_way_4 : List UInt8 := [180, 0, 185, 4, 100, 21, 5, 100, 46, 167, 0, 5, 16, 247, 172]
abbrev dktX1_way_4 : List UInt8 := dkwX1_way_4 ++ []
def dkwX1_way_3 : List UInt8 := [160, 0, 10, 42, 180, 0, 185, 167, 0, 31, 21, 5, 42, 180, 0, 185, 162, 0, 20, 42, 180, 0, 64, 42]
abbrev dktX1_way_3 : List UInt8 := dkwX1_way_3 ++ dktX1_way_4
def dkwX1_way_2 : List UInt8 := [180, 0, 61, 28, 46, 17, 7, 208, 164, 0, 6, 16, 247, 172, 42, 27, 28, 182, 0, 191, 21, 5, 2]
abbrev dktX1_way_2 : List UInt8 := dkwX1_way_2 ++ dktX1_way_3
def dkwX1_way_1 : List UInt8 := [29, 184, 0, 137, 154, 0, 6, 16, 254, 172, 42, 21, 4, 182, 0, 174, 42, 27, 29, 182, 0, 178, 42]
abbrev dktX1_way_1 : List UInt8 := dkwX1_way_1 ++ dktX1_way_2
def dkwX1_way_0 : List UInt8 := [42, 27, 182, 0, 150, 153, 0, 17, 42, 28, 182, 0, 150, 153, 0, 9, 21, 5, 2, 162, 0, 5, 2, 172]
abbrev dktX1_way_0 : List UInt8 := dkwX1_way_0 ++ dktX1_way_1
theorem dksX1_way_0 : cX1_way.data.toList.drop 0 = dktX1_way_0 := by decide +kernel
theorem dksX1_way_1 : cX1_way.data.toList.drop 24 = dktX1_way_1 := dk_seg dksX1_way_0 24 rfl rfl
theorem dksX1_way_2 : cX1_way.data.toList.drop 47 = dktX1_way_2 := dk_seg dksX1_way_1 23 rfl rfl
theorem dksX1_way_3 : cX1_way.data.toList.drop 70 = dktX1_way_3 := dk_seg dksX1_way_2 23 rfl rfl
theorem dksX1_way_4 : cX1_way.data.toList.drop 94 = dktX1_way_4 := dk_seg dksX1_way_3 24 rfl rfl
theorem dX1_way_0 : decode cX1_way 0 = .ok (.aload_n 0, 1) := dk_42 (dk_at dksX1_way_0 0 rfl rfl)
theorem dX1_way_1 : decode cX1_way 1 = .ok (.iload_n 1, 1) := dk_27 (dk_at dksX1_way_0 1 rfl rfl)
theorem dX1_way_2 : decode cX1_way 2 = .ok (.invokevirtual 150, 3) := dk_182 0 150 (dk_at dksX1_way_0 2 rfl rfl)
theorem dX1_way_5 : decode cX1_way 5 = .ok (.ifCond .eq 17, 3) := dk_153 0 17 (dk_at dksX1_way_0 5 rfl rfl)
theorem dX1_way_8 : decode cX1_way 8 = .ok (.aload_n 0, 1) := dk_42 (dk_at dksX1_way_0 8 rfl rfl)
theorem dX1_way_9 : decode cX1_way 9 = .ok (.iload_n 2, 1) := dk_28 (dk_at dksX1_way_0 9 rfl rfl)
theorem dX1_way_10 : decode cX1_way 10 = .ok (.invokevirtual 150, 3) := dk_182 0 150 (dk_at dksX1_way_0 10 rfl rfl)
theorem dX1_way_13 : decode cX1_way 13 = .ok (.ifCond .eq 9, 3) := dk_153 0 9 (dk_at dksX1_way_0 13 rfl rfl)
theorem dX1_way_16 : decode cX1_way 16 = .ok (.iload 5, 2) := dk_21 5 (dk_at dksX1_way_0 16 rfl rfl)
theorem dX1_way_18 : decode cX1_way 18 = .ok (.iconst (-1), 1) := dk_2 (dk_at dksX1_way_0 18 rfl rfl)
theorem dX1_way_19 : decode cX1_way 19 = .ok (.if_icmp .ge 5, 3) := dk_162 0 5 (dk_at dksX1_way_0 19 rfl rfl)
theorem dX1_way_22 : decode cX1_way 22 = .ok (.iconst (-1), 1) := dk_2 (dk_at dksX1_way_0 22 rfl rfl)
theorem dX1_way_23 : decode cX1_way 23 = .ok (.ireturn, 1) := dk_172 (dk_at dksX1_way_0 23 rfl rfl)
theorem dX1_way_24 : decode cX1_way 24 = .ok (.iload_n 3, 1) := dk_29 (dk_at dksX1_way_1 0 rfl rfl)
theorem dX1_way_25 : decode cX1_way 25 = .ok (.invokestatic 137, 3) := dk_184 0 137 (dk_at dksX1_way_1 1 rfl rfl)
theorem dX1_way_28 : decode cX1_way 28 = .ok (.ifCond .ne 6, 3) := dk_154 0 6 (dk_at dksX1_way_1 4 rfl rfl)
theorem dX1_way_31 : decode cX1_way 31 = .ok (.bipush (-2), 2) := dk_16 254 (dk_at dksX1_way_1 7 rfl rfl)
theorem dX1_way_33 : decode cX1_way 33 = .ok (.ireturn, 1) := dk_172 (dk_at dksX1_way_1 9 rfl rfl)
theorem dX1_way_34 : decode cX1_way 34 = .ok (.aload_n 0, 1) := dk_42 (dk_at dksX1_way_1 10 rfl rfl)
theorem dX1_way_35 : decode cX1_way 35 = .ok (.iload 4, 2) := dk_21 4 (dk_at dksX1_way_1 11 rfl rfl)
theorem dX1_way_37 : decode cX1_way 37 = .ok (.invokevirtual 174, 3) := dk_182 0 174 (dk_at dksX1_way_1 13 rfl rfl)
theorem dX1_way_40 : decode cX1_way 40 = .ok (.aload_n 0, 1) := dk_42 (dk_at dksX1_way_1 16 rfl rfl)
theorem dX1_way_41 : decode cX1_way 41 = .ok (.iload_n 1, 1) := dk_27 (dk_at dksX1_way_1 17 rfl rfl)
theorem dX1_way_42 : decode cX1_way 42 = .ok (.iload_n 3, 1) := dk_29 (dk_at dksX1_way_1 18 rfl rfl)
theorem dX1_way_43 : decode cX1_way 43 = .ok (.invokevirtual 178, 3) := dk_182 0 178 (dk_at dksX1_way_1 19 rfl rfl)
theorem dX1_way_46 : decode cX1_way 46 = .ok (.aload_n 0, 1) := dk_42 (dk_at dksX1_way_1 22 rfl rfl)
theorem dX1_way_47 : decode cX1_way 47 = .ok (.getfield 61, 3) := dk_180 0 61 (dk_at dksX1_way_2 0 rfl rfl)
theorem dX1_way_50 : decode cX1_way 50 = .ok (.iload_n 2, 1) := dk_28 (dk_at dksX1_way_2 3 rfl rfl)
theorem dX1_way_51 : decode cX1_way 51 = .ok (.iaload, 1) := dk_46 (dk_at dksX1_way_2 4 rfl rfl)
theorem dX1_way_52 : decode cX1_way 52 = .ok (.sipush 2000, 3) := dk_17 7 208 (dk_at dksX1_way_2 5 rfl rfl)
theorem dX1_way_55 : decode cX1_way 55 = .ok (.if_icmp .le 6, 3) := dk_164 0 6 (dk_at dksX1_way_2 8 rfl rfl)
theorem dX1_way_58 : decode cX1_way 58 = .ok (.bipush (-9), 2) := dk_16 247 (dk_at dksX1_way_2 11 rfl rfl)
theorem dX1_way_60 : decode cX1_way 60 = .ok (.ireturn, 1) := dk_172 (dk_at dksX1_way_2 13 rfl rfl)
theorem dX1_way_61 : decode cX1_way 61 = .ok (.aload_n 0, 1) := dk_42 (dk_at dksX1_way_2 14 rfl rfl)
theorem dX1_way_62 : decode cX1_way 62 = .ok (.iload_n 1, 1) := dk_27 (dk_at dksX1_way_2 15 rfl rfl)
theorem dX1_way_63 : decode cX1_way 63 = .ok (.iload_n 2, 1) := dk_28 (dk_at dksX1_way_2 16 rfl rfl)
theorem dX1_way_64 : decode cX1_way 64 = .ok (.invokevirtual 191, 3) := dk_182 0 191 (dk_at dksX1_way_2 17 rfl rfl)
theorem dX1_way_67 : decode cX1_way 67 = .ok (.iload 5, 2) := dk_21 5 (dk_at dksX1_way_2 20 rfl rfl)
theorem dX1_way_69 : decode cX1_way 69 = .ok (.iconst (-1), 1) := dk_2 (dk_at dksX1_way_2 22 rfl rfl)
theorem dX1_way_70 : decode cX1_way 70 = .ok (.if_icmp .ne 10, 3) := dk_160 0 10 (dk_at dksX1_way_3 0 rfl rfl)
theorem dX1_way_73 : decode cX1_way 73 = .ok (.aload_n 0, 1) := dk_42 (dk_at dksX1_way_3 3 rfl rfl)
theorem dX1_way_74 : decode cX1_way 74 = .ok (.getfield 185, 3) := dk_180 0 185 (dk_at dksX1_way_3 4 rfl rfl)
theorem dX1_way_77 : decode cX1_way 77 = .ok (.goto 31, 3) := dk_167 0 31 (dk_at dksX1_way_3 7 rfl rfl)
theorem dX1_way_80 : decode cX1_way 80 = .ok (.iload 5, 2) := dk_21 5 (dk_at dksX1_way_3 10 rfl rfl)
theorem dX1_way_82 : decode cX1_way 82 = .ok (.aload_n 0, 1) := dk_42 (dk_at dksX1_way_3 12 rfl rfl)
theorem dX1_way_83 : decode cX1_way 83 = .ok (.getfield 185, 3) := dk_180 0 185 (dk_at dksX1_way_3 13 rfl rfl)
theorem dX1_way_86 : decode cX1_way 86 = .ok (.if_icmp .ge 20, 3) := dk_162 0 20 (dk_at dksX1_way_3 16 rfl rfl)
theorem dX1_way_89 : decode cX1_way 89 = .ok (.aload_n 0, 1) := dk_42 (dk_at dksX1_way_3 19 rfl rfl)
theorem dX1_way_90 : decode cX1_way 90 = .ok (.getfield 64, 3) := dk_180 0 64 (dk_at dksX1_way_3 20 rfl rfl)
theorem dX1_way_93 : decode cX1_way 93 = .ok (.aload_n 0, 1) := dk_42 (dk_at dksX1_way_3 23 rfl rfl)
theorem dX1_way_94 : decode cX1_way 94 = .ok (.getfield 185, 3) := dk_180 0 185 (dk_at dksX1_way_4 0 rfl rfl)
theorem dX1_way_97 : decode cX1_way 97 = .ok (.iconst 1, 1) := dk_4 (dk_at dksX1_way_4 3 rfl rfl)
theorem dX1_way_98 : decode cX1_way 98 = .ok (.isub, 1) := dk_100 (dk_at dksX1_way_4 4 rfl rfl)
theorem dX1_way_99 : decode cX1_way 99 = .ok (.iload 5, 2) := dk_21 5 (dk_at dksX1_way_4 5 rfl rfl)
theorem dX1_way_101 : decode cX1_way 101 = .ok (.isub, 1) := dk_100 (dk_at dksX1_way_4 7 rfl rfl)
theorem dX1_way_102 : decode cX1_way 102 = .ok (.iaload, 1) := dk_46 (dk_at dksX1_way_4 8 rfl rfl)
theorem dX1_way_103 : decode cX1_way 103 = .ok (.goto 5, 3) := dk_167 0 5 (dk_at dksX1_way_4 9 rfl rfl)
theorem dX1_way_106 : decode cX1_way 106 = .ok (.bipush (-9), 2) := dk_16 247 (dk_at dksX1_way_4 12 rfl rfl)
theorem dX1_way_108 : decode cX1_way 108 = .ok (.ireturn, 1) := dk_172 (dk_at dksX1_way_4 14 rfl rfl)
abbrev cX1_findWay : ByteArray := prog_16_method_42_code
def yX1_findWay : MethodName := ⟨RX1, "findWay", "(II)V"⟩
def dkwX1_findWay_3 : List UInt8 := [177]
abbrev dktX1_findWay_3 : List UInt8 := dkwX1_findWay_3 ++ []
def dkwX1_findWay_2 : List UInt8 := [160, 0, 13, 42, 180, 0, 43, 21, 4, 46, 167, 0, 10, 42, 180, 0, 40, 21, 4, 46, 62, 167, 255, 194]
abbrev dktX1_findWay_2 : List UInt8 := dkwX1_findWay_2 ++ dktX1_findWay_3
def dkwX1_findWay_1 : List UInt8 := [180, 0, 185, 21, 4, 79, 42, 89, 180, 0, 185, 4, 96, 181, 0, 185, 42, 180, 0, 40, 21, 4, 46, 29]
abbrev dktX1_findWay_1 : List UInt8 := dkwX1_findWay_1 ++ dktX1_findWay_2
def dkwX1_findWay_0 : List UInt8 := [42, 3, 181, 0, 185, 28, 62, 29, 27, 159, 0, 63, 42, 29, 182, 0, 188, 54, 4, 42, 180, 0, 64, 42]
abbrev dktX1_findWay_0 : List UInt8 := dkwX1_findWay_0 ++ dktX1_findWay_1
theorem dksX1_findWay_0 : cX1_findWay.data.toList.drop 0 = dktX1_findWay_0 := by decide +kernel
theorem dksX1_findWay_1 : cX1_findWay.data.toList.drop 24 = dktX1_findWay_1 := dk_seg dksX1_findWay_0 24 rfl rfl
theorem dksX1_findWay_2 : cX1_findWay.data.toList.drop 48 = dktX1_findWay_2 := dk_seg dksX1_findWay_1 24 rfl rfl
theorem dksX1_findWay_3 : cX1_findWay.data.toList.drop 72 = dktX1_findWay_3 := dk_seg dksX1_findWay_2 24 rfl rfl
theorem dX1_findWay_0 : decode cX1_findWay 0 = .ok (.aload_n 0, 1) := dk_42 (dk_at dksX1_findWay_0 0 rfl rfl)
theorem dX1_findWay_1 : decode cX1_findWay 1 = .ok (.iconst 0, 1) := dk_3 (dk_at dksX1_findWay_0 1 rfl rfl)
theorem dX1_findWay_2 : decode cX1_findWay 2 = .ok (.putfield 185, 3) := dk_181 0 185 (dk_at dksX1_findWay_0 2 rfl rfl)
theorem dX1_findWay_5 : decode cX1_findWay 5 = .ok (.iload_n 2, 1) := dk_28 (dk_at dksX1_findWay_0 5 rfl rfl)
theorem dX1_findWay_6 : decode cX1_findWay 6 = .ok (.istore_n 3, 1) := dk_62 (dk_at dksX1_findWay_0 6 rfl rfl)
theorem dX1_findWay_7 : decode cX1_findWay 7 = .ok (.iload_n 3, 1) := dk_29 (dk_at dksX1_findWay_0 7 rfl rfl)
theorem dX1_findWay_8 : decode cX1_findWay 8 = .ok (.iload_n 1, 1) := dk_27 (dk_at dksX1_findWay_0 8 rfl rfl)
theorem dX1_findWay_9 : decode cX1_findWay 9 = .ok (.if_icmp .eq 63, 3) := dk_159 0 63 (dk_at dksX1_findWay_0 9 rfl rfl)
theorem dX1_findWay_12 : decode cX1_findWay 12 = .ok (.aload_n 0, 1) := dk_42 (dk_at dksX1_findWay_0 12 rfl rfl)
theorem dX1_findWay_13 : decode cX1_findWay 13 = .ok (.iload_n 3, 1) := dk_29 (dk_at dksX1_findWay_0 13 rfl rfl)
theorem dX1_findWay_14 : decode cX1_findWay 14 = .ok (.invokevirtual 188, 3) := dk_182 0 188 (dk_at dksX1_findWay_0 14 rfl rfl)
theorem dX1_findWay_17 : decode cX1_findWay 17 = .ok (.istore 4, 2) := dk_54 4 (dk_at dksX1_findWay_0 17 rfl rfl)
theorem dX1_findWay_19 : decode cX1_findWay 19 = .ok (.aload_n 0, 1) := dk_42 (dk_at dksX1_findWay_0 19 rfl rfl)
theorem dX1_findWay_20 : decode cX1_findWay 20 = .ok (.getfield 64, 3) := dk_180 0 64 (dk_at dksX1_findWay_0 20 rfl rfl)
theorem dX1_findWay_23 : decode cX1_findWay 23 = .ok (.aload_n 0, 1) := dk_42 (dk_at dksX1_findWay_0 23 rfl rfl)
theorem dX1_findWay_24 : decode cX1_findWay 24 = .ok (.getfield 185, 3) := dk_180 0 185 (dk_at dksX1_findWay_1 0 rfl rfl)
theorem dX1_findWay_27 : decode cX1_findWay 27 = .ok (.iload 4, 2) := dk_21 4 (dk_at dksX1_findWay_1 3 rfl rfl)
theorem dX1_findWay_29 : decode cX1_findWay 29 = .ok (.iastore, 1) := dk_79 (dk_at dksX1_findWay_1 5 rfl rfl)
theorem dX1_findWay_30 : decode cX1_findWay 30 = .ok (.aload_n 0, 1) := dk_42 (dk_at dksX1_findWay_1 6 rfl rfl)
theorem dX1_findWay_31 : decode cX1_findWay 31 = .ok (.dup, 1) := dk_89 (dk_at dksX1_findWay_1 7 rfl rfl)
theorem dX1_findWay_32 : decode cX1_findWay 32 = .ok (.getfield 185, 3) := dk_180 0 185 (dk_at dksX1_findWay_1 8 rfl rfl)
theorem dX1_findWay_35 : decode cX1_findWay 35 = .ok (.iconst 1, 1) := dk_4 (dk_at dksX1_findWay_1 11 rfl rfl)
theorem dX1_findWay_36 : decode cX1_findWay 36 = .ok (.iadd, 1) := dk_96 (dk_at dksX1_findWay_1 12 rfl rfl)
theorem dX1_findWay_37 : decode cX1_findWay 37 = .ok (.putfield 185, 3) := dk_181 0 185 (dk_at dksX1_findWay_1 13 rfl rfl)
theorem dX1_findWay_40 : decode cX1_findWay 40 = .ok (.aload_n 0, 1) := dk_42 (dk_at dksX1_findWay_1 16 rfl rfl)
theorem dX1_findWay_41 : decode cX1_findWay 41 = .ok (.getfield 40, 3) := dk_180 0 40 (dk_at dksX1_findWay_1 17 rfl rfl)
theorem dX1_findWay_44 : decode cX1_findWay 44 = .ok (.iload 4, 2) := dk_21 4 (dk_at dksX1_findWay_1 20 rfl rfl)
theorem dX1_findWay_46 : decode cX1_findWay 46 = .ok (.iaload, 1) := dk_46 (dk_at dksX1_findWay_1 22 rfl rfl)
theorem dX1_findWay_47 : decode cX1_findWay 47 = .ok (.iload_n 3, 1) := dk_29 (dk_at dksX1_findWay_1 23 rfl rfl)
theorem dX1_findWay_48 : decode cX1_findWay 48 = .ok (.if_icmp .ne 13, 3) := dk_160 0 13 (dk_at dksX1_findWay_2 0 rfl rfl)
theorem dX1_findWay_51 : decode cX1_findWay 51 = .ok (.aload_n 0, 1) := dk_42 (dk_at dksX1_findWay_2 3 rfl rfl)
theorem dX1_findWay_52 : decode cX1_findWay 52 = .ok (.getfield 43, 3) := dk_180 0 43 (dk_at dksX1_findWay_2 4 rfl rfl)
theorem dX1_findWay_55 : decode cX1_findWay 55 = .ok (.iload 4, 2) := dk_21 4 (dk_at dksX1_findWay_2 7 rfl rfl)
theorem dX1_findWay_57 : decode cX1_findWay 57 = .ok (.iaload, 1) := dk_46 (dk_at dksX1_findWay_2 9 rfl rfl)
theorem dX1_findWay_58 : decode cX1_findWay 58 = .ok (.goto 10, 3) := dk_167 0 10 (dk_at dksX1_findWay_2 10 rfl rfl)
theorem dX1_findWay_61 : decode cX1_findWay 61 = .ok (.aload_n 0, 1) := dk_42 (dk_at dksX1_findWay_2 13 rfl rfl)
theorem dX1_findWay_62 : decode cX1_findWay 62 = .ok (.getfield 40, 3) := dk_180 0 40 (dk_at dksX1_findWay_2 14 rfl rfl)
theorem dX1_findWay_65 : decode cX1_findWay 65 = .ok (.iload 4, 2) := dk_21 4 (dk_at dksX1_findWay_2 17 rfl rfl)
theorem dX1_findWay_67 : decode cX1_findWay 67 = .ok (.iaload, 1) := dk_46 (dk_at dksX1_findWay_2 19 rfl rfl)
theorem dX1_findWay_68 : decode cX1_findWay 68 = .ok (.istore_n 3, 1) := dk_62 (dk_at dksX1_findWay_2 20 rfl rfl)
theorem dX1_findWay_69 : decode cX1_findWay 69 = .ok (.goto (-62), 3) := dk_167 255 194 (dk_at dksX1_findWay_2 21 rfl rfl)
theorem dX1_findWay_72 : decode cX1_findWay 72 = .ok (.return_, 1) := dk_177 (dk_at dksX1_findWay_3 0 rfl rfl)
abbrev cX1_roadTo : ByteArray := prog_16_method_41_code
def yX1_roadTo : MethodName := ⟨RX1, "roadTo", "(I)I"⟩
def dkwX1_roadTo_6 : List UInt8 := [132, 3, 1, 167, 255, 116, 28, 172]
abbrev dktX1_roadTo_6 : List UInt8 := dkwX1_roadTo_6 ++ []
def dkwX1_roadTo_5 : List UInt8 := [16, 247, 159, 0, 18, 42, 180, 0, 58, 29, 46, 42, 180, 0, 58, 28, 46, 162, 0, 5, 29, 61]
abbrev dktX1_roadTo_5 : List UInt8 := dkwX1_roadTo_5 ++ dktX1_roadTo_6
def dkwX1_roadTo_4 : List UInt8 := [29, 104, 21, 5, 96, 46, 21, 5, 160, 0, 7, 4, 167, 0, 4, 3, 54, 6, 21, 6, 153, 0, 26, 28]
abbrev dktX1_roadTo_4 : List UInt8 := dkwX1_roadTo_4 ++ dktX1_roadTo_5
def dkwX1_roadTo_3 : List UInt8 := [16, 247, 159, 0, 37, 42, 180, 0, 61, 21, 4, 46, 21, 5, 163, 0, 25, 42, 180, 0, 55, 17, 7, 209]
abbrev dktX1_roadTo_3 : List UInt8 := dkwX1_roadTo_3 ++ dktX1_roadTo_4
def dkwX1_roadTo_2 : List UInt8 := [167, 0, 5, 16, 247, 54, 4, 42, 180, 0, 61, 27, 46, 42, 180, 0, 58, 29, 46, 100, 54, 5, 21, 4]
abbrev dktX1_roadTo_2 : List UInt8 := dkwX1_roadTo_2 ++ dktX1_roadTo_3
def dkwX1_roadTo_1 : List UInt8 := [180, 0, 43, 29, 46, 167, 0, 24, 42, 180, 0, 43, 29, 46, 27, 160, 0, 12, 42, 180, 0, 40, 29, 46]
abbrev dktX1_roadTo_1 : List UInt8 := dkwX1_roadTo_1 ++ dktX1_roadTo_2
def dkwX1_roadTo_0 : List UInt8 := [16, 247, 61, 3, 62, 29, 42, 180, 0, 123, 162, 0, 138, 42, 180, 0, 40, 29, 46, 27, 160, 0, 12, 42]
abbrev dktX1_roadTo_0 : List UInt8 := dkwX1_roadTo_0 ++ dktX1_roadTo_1
theorem dksX1_roadTo_0 : cX1_roadTo.data.toList.drop 0 = dktX1_roadTo_0 := by decide +kernel
theorem dksX1_roadTo_1 : cX1_roadTo.data.toList.drop 24 = dktX1_roadTo_1 := dk_seg dksX1_roadTo_0 24 rfl rfl
theorem dksX1_roadTo_2 : cX1_roadTo.data.toList.drop 48 = dktX1_roadTo_2 := dk_seg dksX1_roadTo_1 24 rfl rfl
theorem dksX1_roadTo_3 : cX1_roadTo.data.toList.drop 72 = dktX1_roadTo_3 := dk_seg dksX1_roadTo_2 24 rfl rfl
theorem dksX1_roadTo_4 : cX1_roadTo.data.toList.drop 96 = dktX1_roadTo_4 := dk_seg dksX1_roadTo_3 24 rfl rfl
theorem dksX1_roadTo_5 : cX1_roadTo.data.toList.drop 120 = dktX1_roadTo_5 := dk_seg dksX1_roadTo_4 24 rfl rfl
theorem dksX1_roadTo_6 : cX1_roadTo.data.toList.drop 142 = dktX1_roadTo_6 := dk_seg dksX1_roadTo_5 22 rfl rfl
theorem dX1_roadTo_0 : decode cX1_roadTo 0 = .ok (.bipush (-9), 2) := dk_16 247 (dk_at dksX1_roadTo_0 0 rfl rfl)
theorem dX1_roadTo_2 : decode cX1_roadTo 2 = .ok (.istore_n 2, 1) := dk_61 (dk_at dksX1_roadTo_0 2 rfl rfl)
theorem dX1_roadTo_3 : decode cX1_roadTo 3 = .ok (.iconst 0, 1) := dk_3 (dk_at dksX1_roadTo_0 3 rfl rfl)
theorem dX1_roadTo_4 : decode cX1_roadTo 4 = .ok (.istore_n 3, 1) := dk_62 (dk_at dksX1_roadTo_0 4 rfl rfl)
theorem dX1_roadTo_5 : decode cX1_roadTo 5 = .ok (.iload_n 3, 1) := dk_29 (dk_at dksX1_roadTo_0 5 rfl rfl)
theorem dX1_roadTo_6 : decode cX1_roadTo 6 = .ok (.aload_n 0, 1) := dk_42 (dk_at dksX1_roadTo_0 6 rfl rfl)
theorem dX1_roadTo_7 : decode cX1_roadTo 7 = .ok (.getfield 123, 3) := dk_180 0 123 (dk_at dksX1_roadTo_0 7 rfl rfl)
theorem dX1_roadTo_10 : decode cX1_roadTo 10 = .ok (.if_icmp .ge 138, 3) := dk_162 0 138 (dk_at dksX1_roadTo_0 10 rfl rfl)
theorem dX1_roadTo_13 : decode cX1_roadTo 13 = .ok (.aload_n 0, 1) := dk_42 (dk_at dksX1_roadTo_0 13 rfl rfl)
theorem dX1_roadTo_14 : decode cX1_roadTo 14 = .ok (.getfield 40, 3) := dk_180 0 40 (dk_at dksX1_roadTo_0 14 rfl rfl)
theorem dX1_roadTo_17 : decode cX1_roadTo 17 = .ok (.iload_n 3, 1) := dk_29 (dk_at dksX1_roadTo_0 17 rfl rfl)
theorem dX1_roadTo_18 : decode cX1_roadTo 18 = .ok (.iaload, 1) := dk_46 (dk_at dksX1_roadTo_0 18 rfl rfl)
theorem dX1_roadTo_19 : decode cX1_roadTo 19 = .ok (.iload_n 1, 1) := dk_27 (dk_at dksX1_roadTo_0 19 rfl rfl)
theorem dX1_roadTo_20 : decode cX1_roadTo 20 = .ok (.if_icmp .ne 12, 3) := dk_160 0 12 (dk_at dksX1_roadTo_0 20 rfl rfl)
theorem dX1_roadTo_23 : decode cX1_roadTo 23 = .ok (.aload_n 0, 1) := dk_42 (dk_at dksX1_roadTo_0 23 rfl rfl)
theorem dX1_roadTo_24 : decode cX1_roadTo 24 = .ok (.getfield 43, 3) := dk_180 0 43 (dk_at dksX1_roadTo_1 0 rfl rfl)
theorem dX1_roadTo_27 : decode cX1_roadTo 27 = .ok (.iload_n 3, 1) := dk_29 (dk_at dksX1_roadTo_1 3 rfl rfl)
theorem dX1_roadTo_28 : decode cX1_roadTo 28 = .ok (.iaload, 1) := dk_46 (dk_at dksX1_roadTo_1 4 rfl rfl)
theorem dX1_roadTo_29 : decode cX1_roadTo 29 = .ok (.goto 24, 3) := dk_167 0 24 (dk_at dksX1_roadTo_1 5 rfl rfl)
theorem dX1_roadTo_32 : decode cX1_roadTo 32 = .ok (.aload_n 0, 1) := dk_42 (dk_at dksX1_roadTo_1 8 rfl rfl)
theorem dX1_roadTo_33 : decode cX1_roadTo 33 = .ok (.getfield 43, 3) := dk_180 0 43 (dk_at dksX1_roadTo_1 9 rfl rfl)
theorem dX1_roadTo_36 : decode cX1_roadTo 36 = .ok (.iload_n 3, 1) := dk_29 (dk_at dksX1_roadTo_1 12 rfl rfl)
theorem dX1_roadTo_37 : decode cX1_roadTo 37 = .ok (.iaload, 1) := dk_46 (dk_at dksX1_roadTo_1 13 rfl rfl)
theorem dX1_roadTo_38 : decode cX1_roadTo 38 = .ok (.iload_n 1, 1) := dk_27 (dk_at dksX1_roadTo_1 14 rfl rfl)
theorem dX1_roadTo_39 : decode cX1_roadTo 39 = .ok (.if_icmp .ne 12, 3) := dk_160 0 12 (dk_at dksX1_roadTo_1 15 rfl rfl)
theorem dX1_roadTo_42 : decode cX1_roadTo 42 = .ok (.aload_n 0, 1) := dk_42 (dk_at dksX1_roadTo_1 18 rfl rfl)
theorem dX1_roadTo_43 : decode cX1_roadTo 43 = .ok (.getfield 40, 3) := dk_180 0 40 (dk_at dksX1_roadTo_1 19 rfl rfl)
theorem dX1_roadTo_46 : decode cX1_roadTo 46 = .ok (.iload_n 3, 1) := dk_29 (dk_at dksX1_roadTo_1 22 rfl rfl)
theorem dX1_roadTo_47 : decode cX1_roadTo 47 = .ok (.iaload, 1) := dk_46 (dk_at dksX1_roadTo_1 23 rfl rfl)
theorem dX1_roadTo_48 : decode cX1_roadTo 48 = .ok (.goto 5, 3) := dk_167 0 5 (dk_at dksX1_roadTo_2 0 rfl rfl)
theorem dX1_roadTo_51 : decode cX1_roadTo 51 = .ok (.bipush (-9), 2) := dk_16 247 (dk_at dksX1_roadTo_2 3 rfl rfl)
theorem dX1_roadTo_53 : decode cX1_roadTo 53 = .ok (.istore 4, 2) := dk_54 4 (dk_at dksX1_roadTo_2 5 rfl rfl)
theorem dX1_roadTo_55 : decode cX1_roadTo 55 = .ok (.aload_n 0, 1) := dk_42 (dk_at dksX1_roadTo_2 7 rfl rfl)
theorem dX1_roadTo_56 : decode cX1_roadTo 56 = .ok (.getfield 61, 3) := dk_180 0 61 (dk_at dksX1_roadTo_2 8 rfl rfl)
theorem dX1_roadTo_59 : decode cX1_roadTo 59 = .ok (.iload_n 1, 1) := dk_27 (dk_at dksX1_roadTo_2 11 rfl rfl)
theorem dX1_roadTo_60 : decode cX1_roadTo 60 = .ok (.iaload, 1) := dk_46 (dk_at dksX1_roadTo_2 12 rfl rfl)
theorem dX1_roadTo_61 : decode cX1_roadTo 61 = .ok (.aload_n 0, 1) := dk_42 (dk_at dksX1_roadTo_2 13 rfl rfl)
theorem dX1_roadTo_62 : decode cX1_roadTo 62 = .ok (.getfield 58, 3) := dk_180 0 58 (dk_at dksX1_roadTo_2 14 rfl rfl)
theorem dX1_roadTo_65 : decode cX1_roadTo 65 = .ok (.iload_n 3, 1) := dk_29 (dk_at dksX1_roadTo_2 17 rfl rfl)
theorem dX1_roadTo_66 : decode cX1_roadTo 66 = .ok (.iaload, 1) := dk_46 (dk_at dksX1_roadTo_2 18 rfl rfl)
theorem dX1_roadTo_67 : decode cX1_roadTo 67 = .ok (.isub, 1) := dk_100 (dk_at dksX1_roadTo_2 19 rfl rfl)
theorem dX1_roadTo_68 : decode cX1_roadTo 68 = .ok (.istore 5, 2) := dk_54 5 (dk_at dksX1_roadTo_2 20 rfl rfl)
theorem dX1_roadTo_70 : decode cX1_roadTo 70 = .ok (.iload 4, 2) := dk_21 4 (dk_at dksX1_roadTo_2 22 rfl rfl)
theorem dX1_roadTo_72 : decode cX1_roadTo 72 = .ok (.bipush (-9), 2) := dk_16 247 (dk_at dksX1_roadTo_3 0 rfl rfl)
theorem dX1_roadTo_74 : decode cX1_roadTo 74 = .ok (.if_icmp .eq 37, 3) := dk_159 0 37 (dk_at dksX1_roadTo_3 2 rfl rfl)
theorem dX1_roadTo_77 : decode cX1_roadTo 77 = .ok (.aload_n 0, 1) := dk_42 (dk_at dksX1_roadTo_3 5 rfl rfl)
theorem dX1_roadTo_78 : decode cX1_roadTo 78 = .ok (.getfield 61, 3) := dk_180 0 61 (dk_at dksX1_roadTo_3 6 rfl rfl)
theorem dX1_roadTo_81 : decode cX1_roadTo 81 = .ok (.iload 4, 2) := dk_21 4 (dk_at dksX1_roadTo_3 9 rfl rfl)
theorem dX1_roadTo_83 : decode cX1_roadTo 83 = .ok (.iaload, 1) := dk_46 (dk_at dksX1_roadTo_3 11 rfl rfl)
theorem dX1_roadTo_84 : decode cX1_roadTo 84 = .ok (.iload 5, 2) := dk_21 5 (dk_at dksX1_roadTo_3 12 rfl rfl)
theorem dX1_roadTo_86 : decode cX1_roadTo 86 = .ok (.if_icmp .gt 25, 3) := dk_163 0 25 (dk_at dksX1_roadTo_3 14 rfl rfl)
theorem dX1_roadTo_89 : decode cX1_roadTo 89 = .ok (.aload_n 0, 1) := dk_42 (dk_at dksX1_roadTo_3 17 rfl rfl)
theorem dX1_roadTo_90 : decode cX1_roadTo 90 = .ok (.getfield 55, 3) := dk_180 0 55 (dk_at dksX1_roadTo_3 18 rfl rfl)
theorem dX1_roadTo_93 : decode cX1_roadTo 93 = .ok (.sipush 2001, 3) := dk_17 7 209 (dk_at dksX1_roadTo_3 21 rfl rfl)
theorem dX1_roadTo_96 : decode cX1_roadTo 96 = .ok (.iload_n 3, 1) := dk_29 (dk_at dksX1_roadTo_4 0 rfl rfl)
theorem dX1_roadTo_97 : decode cX1_roadTo 97 = .ok (.imul, 1) := dk_104 (dk_at dksX1_roadTo_4 1 rfl rfl)
theorem dX1_roadTo_98 : decode cX1_roadTo 98 = .ok (.iload 5, 2) := dk_21 5 (dk_at dksX1_roadTo_4 2 rfl rfl)
theorem dX1_roadTo_100 : decode cX1_roadTo 100 = .ok (.iadd, 1) := dk_96 (dk_at dksX1_roadTo_4 4 rfl rfl)
theorem dX1_roadTo_101 : decode cX1_roadTo 101 = .ok (.iaload, 1) := dk_46 (dk_at dksX1_roadTo_4 5 rfl rfl)
theorem dX1_roadTo_102 : decode cX1_roadTo 102 = .ok (.iload 5, 2) := dk_21 5 (dk_at dksX1_roadTo_4 6 rfl rfl)
theorem dX1_roadTo_104 : decode cX1_roadTo 104 = .ok (.if_icmp .ne 7, 3) := dk_160 0 7 (dk_at dksX1_roadTo_4 8 rfl rfl)
theorem dX1_roadTo_107 : decode cX1_roadTo 107 = .ok (.iconst 1, 1) := dk_4 (dk_at dksX1_roadTo_4 11 rfl rfl)
theorem dX1_roadTo_108 : decode cX1_roadTo 108 = .ok (.goto 4, 3) := dk_167 0 4 (dk_at dksX1_roadTo_4 12 rfl rfl)
theorem dX1_roadTo_111 : decode cX1_roadTo 111 = .ok (.iconst 0, 1) := dk_3 (dk_at dksX1_roadTo_4 15 rfl rfl)
theorem dX1_roadTo_112 : decode cX1_roadTo 112 = .ok (.istore 6, 2) := dk_54 6 (dk_at dksX1_roadTo_4 16 rfl rfl)
theorem dX1_roadTo_114 : decode cX1_roadTo 114 = .ok (.iload 6, 2) := dk_21 6 (dk_at dksX1_roadTo_4 18 rfl rfl)
theorem dX1_roadTo_116 : decode cX1_roadTo 116 = .ok (.ifCond .eq 26, 3) := dk_153 0 26 (dk_at dksX1_roadTo_4 20 rfl rfl)
theorem dX1_roadTo_119 : decode cX1_roadTo 119 = .ok (.iload_n 2, 1) := dk_28 (dk_at dksX1_roadTo_4 23 rfl rfl)
theorem dX1_roadTo_120 : decode cX1_roadTo 120 = .ok (.bipush (-9), 2) := dk_16 247 (dk_at dksX1_roadTo_5 0 rfl rfl)
theorem dX1_roadTo_122 : decode cX1_roadTo 122 = .ok (.if_icmp .eq 18, 3) := dk_159 0 18 (dk_at dksX1_roadTo_5 2 rfl rfl)
theorem dX1_roadTo_125 : decode cX1_roadTo 125 = .ok (.aload_n 0, 1) := dk_42 (dk_at dksX1_roadTo_5 5 rfl rfl)
theorem dX1_roadTo_126 : decode cX1_roadTo 126 = .ok (.getfield 58, 3) := dk_180 0 58 (dk_at dksX1_roadTo_5 6 rfl rfl)
theorem dX1_roadTo_129 : decode cX1_roadTo 129 = .ok (.iload_n 3, 1) := dk_29 (dk_at dksX1_roadTo_5 9 rfl rfl)
theorem dX1_roadTo_130 : decode cX1_roadTo 130 = .ok (.iaload, 1) := dk_46 (dk_at dksX1_roadTo_5 10 rfl rfl)
theorem dX1_roadTo_131 : decode cX1_roadTo 131 = .ok (.aload_n 0, 1) := dk_42 (dk_at dksX1_roadTo_5 11 rfl rfl)
theorem dX1_roadTo_132 : decode cX1_roadTo 132 = .ok (.getfield 58, 3) := dk_180 0 58 (dk_at dksX1_roadTo_5 12 rfl rfl)
theorem dX1_roadTo_135 : decode cX1_roadTo 135 = .ok (.iload_n 2, 1) := dk_28 (dk_at dksX1_roadTo_5 15 rfl rfl)
theorem dX1_roadTo_136 : decode cX1_roadTo 136 = .ok (.iaload, 1) := dk_46 (dk_at dksX1_roadTo_5 16 rfl rfl)
theorem dX1_roadTo_137 : decode cX1_roadTo 137 = .ok (.if_icmp .ge 5, 3) := dk_162 0 5 (dk_at dksX1_roadTo_5 17 rfl rfl)
theorem dX1_roadTo_140 : decode cX1_roadTo 140 = .ok (.iload_n 3, 1) := dk_29 (dk_at dksX1_roadTo_5 20 rfl rfl)
theorem dX1_roadTo_141 : decode cX1_roadTo 141 = .ok (.istore_n 2, 1) := dk_61 (dk_at dksX1_roadTo_5 21 rfl rfl)
theorem dX1_roadTo_142 : decode cX1_roadTo 142 = .ok (.iinc 3 1, 3) := dk_132 3 1 (dk_at dksX1_roadTo_6 0 rfl rfl)
theorem dX1_roadTo_145 : decode cX1_roadTo 145 = .ok (.goto (-140), 3) := dk_167 255 116 (dk_at dksX1_roadTo_6 3 rfl rfl)
theorem dX1_roadTo_148 : decode cX1_roadTo 148 = .ok (.iload_n 2, 1) := dk_28 (dk_at dksX1_roadTo_6 6 rfl rfl)
theorem dX1_roadTo_149 : decode cX1_roadTo 149 = .ok (.ireturn, 1) := dk_172 (dk_at dksX1_roadTo_6 7 rfl rfl)
abbrev cX1_latest : ByteArray := prog_16_method_44_code
def yX1_latest : MethodName := ⟨RX1, "latest", "(IIIZ)I"⟩
def dkwX1_latest_4 : List UInt8 := [167, 255, 210, 21, 5, 156, 0, 8, 16, 247, 167, 0, 5, 21, 5, 172]
abbrev dktX1_latest_4 : List UInt8 := dkwX1_latest_4 ++ []
def dkwX1_latest_3 : List UInt8 := [182, 0, 178, 42, 180, 0, 61, 28, 46, 29, 163, 0, 10, 21, 7, 54, 5, 167, 0, 7, 21, 7, 54, 6]
abbrev dktX1_latest_3 : List UInt8 := dkwX1_latest_3 ++ dktX1_latest_4
def dkwX1_latest_2 : List UInt8 := [21, 6, 21, 5, 100, 4, 164, 0, 43, 21, 5, 21, 6, 96, 5, 108, 54, 7, 42, 27, 21, 7]
abbrev dktX1_latest_2 : List UInt8 := dkwX1_latest_2 ++ dktX1_latest_3
def dkwX1_latest_1 : List UInt8 := [184, 0, 82, 154, 0, 6, 16, 254, 172, 42, 21, 4, 182, 0, 174, 2, 54, 5, 17, 7, 208, 54, 6]
abbrev dktX1_latest_1 : List UInt8 := dkwX1_latest_1 ++ dktX1_latest_2
def dkwX1_latest_0 : List UInt8 := [42, 27, 182, 0, 150, 153, 0, 11, 42, 28, 182, 0, 150, 154, 0, 5, 2, 172, 29, 3, 17, 7, 208]
abbrev dktX1_latest_0 : List UInt8 := dkwX1_latest_0 ++ dktX1_latest_1
theorem dksX1_latest_0 : cX1_latest.data.toList.drop 0 = dktX1_latest_0 := by decide +kernel
theorem dksX1_latest_1 : cX1_latest.data.toList.drop 23 = dktX1_latest_1 := dk_seg dksX1_latest_0 23 rfl rfl
theorem dksX1_latest_2 : cX1_latest.data.toList.drop 46 = dktX1_latest_2 := dk_seg dksX1_latest_1 23 rfl rfl
theorem dksX1_latest_3 : cX1_latest.data.toList.drop 68 = dktX1_latest_3 := dk_seg dksX1_latest_2 22 rfl rfl
theorem dksX1_latest_4 : cX1_latest.data.toList.drop 92 = dktX1_latest_4 := dk_seg dksX1_latest_3 24 rfl rfl
theorem dX1_latest_0 : decode cX1_latest 0 = .ok (.aload_n 0, 1) := dk_42 (dk_at dksX1_latest_0 0 rfl rfl)
theorem dX1_latest_1 : decode cX1_latest 1 = .ok (.iload_n 1, 1) := dk_27 (dk_at dksX1_latest_0 1 rfl rfl)
theorem dX1_latest_2 : decode cX1_latest 2 = .ok (.invokevirtual 150, 3) := dk_182 0 150 (dk_at dksX1_latest_0 2 rfl rfl)
theorem dX1_latest_5 : decode cX1_latest 5 = .ok (.ifCond .eq 11, 3) := dk_153 0 11 (dk_at dksX1_latest_0 5 rfl rfl)
theorem dX1_latest_8 : decode cX1_latest 8 = .ok (.aload_n 0, 1) := dk_42 (dk_at dksX1_latest_0 8 rfl rfl)
theorem dX1_latest_9 : decode cX1_latest 9 = .ok (.iload_n 2, 1) := dk_28 (dk_at dksX1_latest_0 9 rfl rfl)
theorem dX1_latest_10 : decode cX1_latest 10 = .ok (.invokevirtual 150, 3) := dk_182 0 150 (dk_at dksX1_latest_0 10 rfl rfl)
theorem dX1_latest_13 : decode cX1_latest 13 = .ok (.ifCond .ne 5, 3) := dk_154 0 5 (dk_at dksX1_latest_0 13 rfl rfl)
theorem dX1_latest_16 : decode cX1_latest 16 = .ok (.iconst (-1), 1) := dk_2 (dk_at dksX1_latest_0 16 rfl rfl)
theorem dX1_latest_17 : decode cX1_latest 17 = .ok (.ireturn, 1) := dk_172 (dk_at dksX1_latest_0 17 rfl rfl)
theorem dX1_latest_18 : decode cX1_latest 18 = .ok (.iload_n 3, 1) := dk_29 (dk_at dksX1_latest_0 18 rfl rfl)
theorem dX1_latest_19 : decode cX1_latest 19 = .ok (.iconst 0, 1) := dk_3 (dk_at dksX1_latest_0 19 rfl rfl)
theorem dX1_latest_20 : decode cX1_latest 20 = .ok (.sipush 2000, 3) := dk_17 7 208 (dk_at dksX1_latest_0 20 rfl rfl)
theorem dX1_latest_23 : decode cX1_latest 23 = .ok (.invokestatic 82, 3) := dk_184 0 82 (dk_at dksX1_latest_1 0 rfl rfl)
theorem dX1_latest_26 : decode cX1_latest 26 = .ok (.ifCond .ne 6, 3) := dk_154 0 6 (dk_at dksX1_latest_1 3 rfl rfl)
theorem dX1_latest_29 : decode cX1_latest 29 = .ok (.bipush (-2), 2) := dk_16 254 (dk_at dksX1_latest_1 6 rfl rfl)
theorem dX1_latest_31 : decode cX1_latest 31 = .ok (.ireturn, 1) := dk_172 (dk_at dksX1_latest_1 8 rfl rfl)
theorem dX1_latest_32 : decode cX1_latest 32 = .ok (.aload_n 0, 1) := dk_42 (dk_at dksX1_latest_1 9 rfl rfl)
theorem dX1_latest_33 : decode cX1_latest 33 = .ok (.iload 4, 2) := dk_21 4 (dk_at dksX1_latest_1 10 rfl rfl)
theorem dX1_latest_35 : decode cX1_latest 35 = .ok (.invokevirtual 174, 3) := dk_182 0 174 (dk_at dksX1_latest_1 12 rfl rfl)
theorem dX1_latest_38 : decode cX1_latest 38 = .ok (.iconst (-1), 1) := dk_2 (dk_at dksX1_latest_1 15 rfl rfl)
theorem dX1_latest_39 : decode cX1_latest 39 = .ok (.istore 5, 2) := dk_54 5 (dk_at dksX1_latest_1 16 rfl rfl)
theorem dX1_latest_41 : decode cX1_latest 41 = .ok (.sipush 2000, 3) := dk_17 7 208 (dk_at dksX1_latest_1 18 rfl rfl)
theorem dX1_latest_44 : decode cX1_latest 44 = .ok (.istore 6, 2) := dk_54 6 (dk_at dksX1_latest_1 21 rfl rfl)
theorem dX1_latest_46 : decode cX1_latest 46 = .ok (.iload 6, 2) := dk_21 6 (dk_at dksX1_latest_2 0 rfl rfl)
theorem dX1_latest_48 : decode cX1_latest 48 = .ok (.iload 5, 2) := dk_21 5 (dk_at dksX1_latest_2 2 rfl rfl)
theorem dX1_latest_50 : decode cX1_latest 50 = .ok (.isub, 1) := dk_100 (dk_at dksX1_latest_2 4 rfl rfl)
theorem dX1_latest_51 : decode cX1_latest 51 = .ok (.iconst 1, 1) := dk_4 (dk_at dksX1_latest_2 5 rfl rfl)
theorem dX1_latest_52 : decode cX1_latest 52 = .ok (.if_icmp .le 43, 3) := dk_164 0 43 (dk_at dksX1_latest_2 6 rfl rfl)
theorem dX1_latest_55 : decode cX1_latest 55 = .ok (.iload 5, 2) := dk_21 5 (dk_at dksX1_latest_2 9 rfl rfl)
theorem dX1_latest_57 : decode cX1_latest 57 = .ok (.iload 6, 2) := dk_21 6 (dk_at dksX1_latest_2 11 rfl rfl)
theorem dX1_latest_59 : decode cX1_latest 59 = .ok (.iadd, 1) := dk_96 (dk_at dksX1_latest_2 13 rfl rfl)
theorem dX1_latest_60 : decode cX1_latest 60 = .ok (.iconst 2, 1) := dk_5 (dk_at dksX1_latest_2 14 rfl rfl)
theorem dX1_latest_61 : decode cX1_latest 61 = .ok (.idiv, 1) := dk_108 (dk_at dksX1_latest_2 15 rfl rfl)
theorem dX1_latest_62 : decode cX1_latest 62 = .ok (.istore 7, 2) := dk_54 7 (dk_at dksX1_latest_2 16 rfl rfl)
theorem dX1_latest_64 : decode cX1_latest 64 = .ok (.aload_n 0, 1) := dk_42 (dk_at dksX1_latest_2 18 rfl rfl)
theorem dX1_latest_65 : decode cX1_latest 65 = .ok (.iload_n 1, 1) := dk_27 (dk_at dksX1_latest_2 19 rfl rfl)
theorem dX1_latest_66 : decode cX1_latest 66 = .ok (.iload 7, 2) := dk_21 7 (dk_at dksX1_latest_2 20 rfl rfl)
theorem dX1_latest_68 : decode cX1_latest 68 = .ok (.invokevirtual 178, 3) := dk_182 0 178 (dk_at dksX1_latest_3 0 rfl rfl)
theorem dX1_latest_71 : decode cX1_latest 71 = .ok (.aload_n 0, 1) := dk_42 (dk_at dksX1_latest_3 3 rfl rfl)
theorem dX1_latest_72 : decode cX1_latest 72 = .ok (.getfield 61, 3) := dk_180 0 61 (dk_at dksX1_latest_3 4 rfl rfl)
theorem dX1_latest_75 : decode cX1_latest 75 = .ok (.iload_n 2, 1) := dk_28 (dk_at dksX1_latest_3 7 rfl rfl)
theorem dX1_latest_76 : decode cX1_latest 76 = .ok (.iaload, 1) := dk_46 (dk_at dksX1_latest_3 8 rfl rfl)
theorem dX1_latest_77 : decode cX1_latest 77 = .ok (.iload_n 3, 1) := dk_29 (dk_at dksX1_latest_3 9 rfl rfl)
theorem dX1_latest_78 : decode cX1_latest 78 = .ok (.if_icmp .gt 10, 3) := dk_163 0 10 (dk_at dksX1_latest_3 10 rfl rfl)
theorem dX1_latest_81 : decode cX1_latest 81 = .ok (.iload 7, 2) := dk_21 7 (dk_at dksX1_latest_3 13 rfl rfl)
theorem dX1_latest_83 : decode cX1_latest 83 = .ok (.istore 5, 2) := dk_54 5 (dk_at dksX1_latest_3 15 rfl rfl)
theorem dX1_latest_85 : decode cX1_latest 85 = .ok (.goto 7, 3) := dk_167 0 7 (dk_at dksX1_latest_3 17 rfl rfl)
theorem dX1_latest_88 : decode cX1_latest 88 = .ok (.iload 7, 2) := dk_21 7 (dk_at dksX1_latest_3 20 rfl rfl)
theorem dX1_latest_90 : decode cX1_latest 90 = .ok (.istore 6, 2) := dk_54 6 (dk_at dksX1_latest_3 22 rfl rfl)
theorem dX1_latest_92 : decode cX1_latest 92 = .ok (.goto (-46), 3) := dk_167 255 210 (dk_at dksX1_latest_4 0 rfl rfl)
theorem dX1_latest_95 : decode cX1_latest 95 = .ok (.iload 5, 2) := dk_21 5 (dk_at dksX1_latest_4 3 rfl rfl)
theorem dX1_latest_97 : decode cX1_latest 97 = .ok (.ifCond .ge 8, 3) := dk_156 0 8 (dk_at dksX1_latest_4 5 rfl rfl)
theorem dX1_latest_100 : decode cX1_latest 100 = .ok (.bipush (-9), 2) := dk_16 247 (dk_at dksX1_latest_4 8 rfl rfl)
theorem dX1_latest_102 : decode cX1_latest 102 = .ok (.goto 5, 3) := dk_167 0 5 (dk_at dksX1_latest_4 10 rfl rfl)
theorem dX1_latest_105 : decode cX1_latest 105 = .ok (.iload 5, 2) := dk_21 5 (dk_at dksX1_latest_4 13 rfl rfl)
theorem dX1_latest_107 : decode cX1_latest 107 = .ok (.ireturn, 1) := dk_172 (dk_at dksX1_latest_4 15 rfl rfl)
abbrev cX1_round : ByteArray := prog_16_method_48_code
def yX1_round : MethodName := ⟨RX1, "round", "(III)I"⟩
def dkwX1_round_8 : List UInt8 := [180, 0, 70, 29, 46, 172]
abbrev dktX1_round_8 : List UInt8 := dkwX1_round_8 ++ []
def dkwX1_round_7 : List UInt8 := [17, 39, 15, 160, 0, 8, 16, 247, 167, 0, 19, 29, 2, 160, 0, 8, 21, 4, 167, 0, 9, 42]
abbrev dktX1_round_7 : List UInt8 := dkwX1_round_7 ++ dktX1_round_8
def dkwX1_round_6 : List UInt8 := [132, 7, 1, 167, 255, 228, 42, 42, 180, 0, 86, 4, 100, 182, 0, 200, 54, 5, 167, 255, 186, 21, 4]
abbrev dktX1_round_6 : List UInt8 := dkwX1_round_6 ++ dktX1_round_7
def dkwX1_round_5 : List UInt8 := [180, 0, 86, 4, 100, 162, 0, 23, 42, 180, 0, 70, 21, 7, 42, 180, 0, 67, 21, 7, 46, 79]
abbrev dktX1_round_5 : List UInt8 := dkwX1_round_5 ++ dktX1_round_6
def dkwX1_round_4 : List UInt8 := [28, 182, 0, 197, 54, 6, 21, 6, 21, 4, 162, 0, 41, 21, 6, 54, 4, 3, 54, 7, 21, 7, 42]
abbrev dktX1_round_4 : List UInt8 := dkwX1_round_4 ++ dktX1_round_5
def dkwX1_round_3 : List UInt8 := [4, 96, 79, 132, 4, 1, 167, 255, 220, 17, 39, 15, 54, 4, 4, 54, 5, 21, 5, 153, 0, 71, 42, 27]
abbrev dktX1_round_3 : List UInt8 := dkwX1_round_3 ++ dktX1_round_4
def dkwX1_round_2 : List UInt8 := [4, 100, 162, 0, 31, 42, 180, 0, 67, 21, 4, 21, 4, 27, 162, 0, 8, 21, 4, 167, 0, 7, 21, 4]
abbrev dktX1_round_2 : List UInt8 := dkwX1_round_2 ++ dktX1_round_3
def dkwX1_round_1 : List UInt8 := [28, 184, 0, 137, 154, 0, 6, 16, 254, 172, 42, 3, 182, 0, 174, 3, 54, 4, 21, 4, 42, 180, 0, 86]
abbrev dktX1_round_1 : List UInt8 := dkwX1_round_1 ++ dktX1_round_2
def dkwX1_round_0 : List UInt8 := [42, 27, 182, 0, 150, 153, 0, 17, 29, 2, 42, 180, 0, 86, 5, 100, 184, 0, 82, 154, 0, 5, 2, 172]
abbrev dktX1_round_0 : List UInt8 := dkwX1_round_0 ++ dktX1_round_1
theorem dksX1_round_0 : cX1_round.data.toList.drop 0 = dktX1_round_0 := by decide +kernel
theorem dksX1_round_1 : cX1_round.data.toList.drop 24 = dktX1_round_1 := dk_seg dksX1_round_0 24 rfl rfl
theorem dksX1_round_2 : cX1_round.data.toList.drop 48 = dktX1_round_2 := dk_seg dksX1_round_1 24 rfl rfl
theorem dksX1_round_3 : cX1_round.data.toList.drop 72 = dktX1_round_3 := dk_seg dksX1_round_2 24 rfl rfl
theorem dksX1_round_4 : cX1_round.data.toList.drop 96 = dktX1_round_4 := dk_seg dksX1_round_3 24 rfl rfl
theorem dksX1_round_5 : cX1_round.data.toList.drop 119 = dktX1_round_5 := dk_seg dksX1_round_4 23 rfl rfl
theorem dksX1_round_6 : cX1_round.data.toList.drop 141 = dktX1_round_6 := dk_seg dksX1_round_5 22 rfl rfl
theorem dksX1_round_7 : cX1_round.data.toList.drop 164 = dktX1_round_7 := dk_seg dksX1_round_6 23 rfl rfl
theorem dksX1_round_8 : cX1_round.data.toList.drop 186 = dktX1_round_8 := dk_seg dksX1_round_7 22 rfl rfl
theorem dX1_round_0 : decode cX1_round 0 = .ok (.aload_n 0, 1) := dk_42 (dk_at dksX1_round_0 0 rfl rfl)
theorem dX1_round_1 : decode cX1_round 1 = .ok (.iload_n 1, 1) := dk_27 (dk_at dksX1_round_0 1 rfl rfl)
theorem dX1_round_2 : decode cX1_round 2 = .ok (.invokevirtual 150, 3) := dk_182 0 150 (dk_at dksX1_round_0 2 rfl rfl)
theorem dX1_round_5 : decode cX1_round 5 = .ok (.ifCond .eq 17, 3) := dk_153 0 17 (dk_at dksX1_round_0 5 rfl rfl)
theorem dX1_round_8 : decode cX1_round 8 = .ok (.iload_n 3, 1) := dk_29 (dk_at dksX1_round_0 8 rfl rfl)
theorem dX1_round_9 : decode cX1_round 9 = .ok (.iconst (-1), 1) := dk_2 (dk_at dksX1_round_0 9 rfl rfl)
theorem dX1_round_10 : decode cX1_round 10 = .ok (.aload_n 0, 1) := dk_42 (dk_at dksX1_round_0 10 rfl rfl)
theorem dX1_round_11 : decode cX1_round 11 = .ok (.getfield 86, 3) := dk_180 0 86 (dk_at dksX1_round_0 11 rfl rfl)
theorem dX1_round_14 : decode cX1_round 14 = .ok (.iconst 2, 1) := dk_5 (dk_at dksX1_round_0 14 rfl rfl)
theorem dX1_round_15 : decode cX1_round 15 = .ok (.isub, 1) := dk_100 (dk_at dksX1_round_0 15 rfl rfl)
theorem dX1_round_16 : decode cX1_round 16 = .ok (.invokestatic 82, 3) := dk_184 0 82 (dk_at dksX1_round_0 16 rfl rfl)
theorem dX1_round_19 : decode cX1_round 19 = .ok (.ifCond .ne 5, 3) := dk_154 0 5 (dk_at dksX1_round_0 19 rfl rfl)
theorem dX1_round_22 : decode cX1_round 22 = .ok (.iconst (-1), 1) := dk_2 (dk_at dksX1_round_0 22 rfl rfl)
theorem dX1_round_23 : decode cX1_round 23 = .ok (.ireturn, 1) := dk_172 (dk_at dksX1_round_0 23 rfl rfl)
theorem dX1_round_24 : decode cX1_round 24 = .ok (.iload_n 2, 1) := dk_28 (dk_at dksX1_round_1 0 rfl rfl)
theorem dX1_round_25 : decode cX1_round 25 = .ok (.invokestatic 137, 3) := dk_184 0 137 (dk_at dksX1_round_1 1 rfl rfl)
theorem dX1_round_28 : decode cX1_round 28 = .ok (.ifCond .ne 6, 3) := dk_154 0 6 (dk_at dksX1_round_1 4 rfl rfl)
theorem dX1_round_31 : decode cX1_round 31 = .ok (.bipush (-2), 2) := dk_16 254 (dk_at dksX1_round_1 7 rfl rfl)
theorem dX1_round_33 : decode cX1_round 33 = .ok (.ireturn, 1) := dk_172 (dk_at dksX1_round_1 9 rfl rfl)
theorem dX1_round_34 : decode cX1_round 34 = .ok (.aload_n 0, 1) := dk_42 (dk_at dksX1_round_1 10 rfl rfl)
theorem dX1_round_35 : decode cX1_round 35 = .ok (.iconst 0, 1) := dk_3 (dk_at dksX1_round_1 11 rfl rfl)
theorem dX1_round_36 : decode cX1_round 36 = .ok (.invokevirtual 174, 3) := dk_182 0 174 (dk_at dksX1_round_1 12 rfl rfl)
theorem dX1_round_39 : decode cX1_round 39 = .ok (.iconst 0, 1) := dk_3 (dk_at dksX1_round_1 15 rfl rfl)
theorem dX1_round_40 : decode cX1_round 40 = .ok (.istore 4, 2) := dk_54 4 (dk_at dksX1_round_1 16 rfl rfl)
theorem dX1_round_42 : decode cX1_round 42 = .ok (.iload 4, 2) := dk_21 4 (dk_at dksX1_round_1 18 rfl rfl)
theorem dX1_round_44 : decode cX1_round 44 = .ok (.aload_n 0, 1) := dk_42 (dk_at dksX1_round_1 20 rfl rfl)
theorem dX1_round_45 : decode cX1_round 45 = .ok (.getfield 86, 3) := dk_180 0 86 (dk_at dksX1_round_1 21 rfl rfl)
theorem dX1_round_48 : decode cX1_round 48 = .ok (.iconst 1, 1) := dk_4 (dk_at dksX1_round_2 0 rfl rfl)
theorem dX1_round_49 : decode cX1_round 49 = .ok (.isub, 1) := dk_100 (dk_at dksX1_round_2 1 rfl rfl)
theorem dX1_round_50 : decode cX1_round 50 = .ok (.if_icmp .ge 31, 3) := dk_162 0 31 (dk_at dksX1_round_2 2 rfl rfl)
theorem dX1_round_53 : decode cX1_round 53 = .ok (.aload_n 0, 1) := dk_42 (dk_at dksX1_round_2 5 rfl rfl)
theorem dX1_round_54 : decode cX1_round 54 = .ok (.getfield 67, 3) := dk_180 0 67 (dk_at dksX1_round_2 6 rfl rfl)
theorem dX1_round_57 : decode cX1_round 57 = .ok (.iload 4, 2) := dk_21 4 (dk_at dksX1_round_2 9 rfl rfl)
theorem dX1_round_59 : decode cX1_round 59 = .ok (.iload 4, 2) := dk_21 4 (dk_at dksX1_round_2 11 rfl rfl)
theorem dX1_round_61 : decode cX1_round 61 = .ok (.iload_n 1, 1) := dk_27 (dk_at dksX1_round_2 13 rfl rfl)
theorem dX1_round_62 : decode cX1_round 62 = .ok (.if_icmp .ge 8, 3) := dk_162 0 8 (dk_at dksX1_round_2 14 rfl rfl)
theorem dX1_round_65 : decode cX1_round 65 = .ok (.iload 4, 2) := dk_21 4 (dk_at dksX1_round_2 17 rfl rfl)
theorem dX1_round_67 : decode cX1_round 67 = .ok (.goto 7, 3) := dk_167 0 7 (dk_at dksX1_round_2 19 rfl rfl)
theorem dX1_round_70 : decode cX1_round 70 = .ok (.iload 4, 2) := dk_21 4 (dk_at dksX1_round_2 22 rfl rfl)
theorem dX1_round_72 : decode cX1_round 72 = .ok (.iconst 1, 1) := dk_4 (dk_at dksX1_round_3 0 rfl rfl)
theorem dX1_round_73 : decode cX1_round 73 = .ok (.iadd, 1) := dk_96 (dk_at dksX1_round_3 1 rfl rfl)
theorem dX1_round_74 : decode cX1_round 74 = .ok (.iastore, 1) := dk_79 (dk_at dksX1_round_3 2 rfl rfl)
theorem dX1_round_75 : decode cX1_round 75 = .ok (.iinc 4 1, 3) := dk_132 4 1 (dk_at dksX1_round_3 3 rfl rfl)
theorem dX1_round_78 : decode cX1_round 78 = .ok (.goto (-36), 3) := dk_167 255 220 (dk_at dksX1_round_3 6 rfl rfl)
theorem dX1_round_81 : decode cX1_round 81 = .ok (.sipush 9999, 3) := dk_17 39 15 (dk_at dksX1_round_3 9 rfl rfl)
theorem dX1_round_84 : decode cX1_round 84 = .ok (.istore 4, 2) := dk_54 4 (dk_at dksX1_round_3 12 rfl rfl)
theorem dX1_round_86 : decode cX1_round 86 = .ok (.iconst 1, 1) := dk_4 (dk_at dksX1_round_3 14 rfl rfl)
theorem dX1_round_87 : decode cX1_round 87 = .ok (.istore 5, 2) := dk_54 5 (dk_at dksX1_round_3 15 rfl rfl)
theorem dX1_round_89 : decode cX1_round 89 = .ok (.iload 5, 2) := dk_21 5 (dk_at dksX1_round_3 17 rfl rfl)
theorem dX1_round_91 : decode cX1_round 91 = .ok (.ifCond .eq 71, 3) := dk_153 0 71 (dk_at dksX1_round_3 19 rfl rfl)
theorem dX1_round_94 : decode cX1_round 94 = .ok (.aload_n 0, 1) := dk_42 (dk_at dksX1_round_3 22 rfl rfl)
theorem dX1_round_95 : decode cX1_round 95 = .ok (.iload_n 1, 1) := dk_27 (dk_at dksX1_round_3 23 rfl rfl)
theorem dX1_round_96 : decode cX1_round 96 = .ok (.iload_n 2, 1) := dk_28 (dk_at dksX1_round_4 0 rfl rfl)
theorem dX1_round_97 : decode cX1_round 97 = .ok (.invokevirtual 197, 3) := dk_182 0 197 (dk_at dksX1_round_4 1 rfl rfl)
theorem dX1_round_100 : decode cX1_round 100 = .ok (.istore 6, 2) := dk_54 6 (dk_at dksX1_round_4 4 rfl rfl)
theorem dX1_round_102 : decode cX1_round 102 = .ok (.iload 6, 2) := dk_21 6 (dk_at dksX1_round_4 6 rfl rfl)
theorem dX1_round_104 : decode cX1_round 104 = .ok (.iload 4, 2) := dk_21 4 (dk_at dksX1_round_4 8 rfl rfl)
theorem dX1_round_106 : decode cX1_round 106 = .ok (.if_icmp .ge 41, 3) := dk_162 0 41 (dk_at dksX1_round_4 10 rfl rfl)
theorem dX1_round_109 : decode cX1_round 109 = .ok (.iload 6, 2) := dk_21 6 (dk_at dksX1_round_4 13 rfl rfl)
theorem dX1_round_111 : decode cX1_round 111 = .ok (.istore 4, 2) := dk_54 4 (dk_at dksX1_round_4 15 rfl rfl)
theorem dX1_round_113 : decode cX1_round 113 = .ok (.iconst 0, 1) := dk_3 (dk_at dksX1_round_4 17 rfl rfl)
theorem dX1_round_114 : decode cX1_round 114 = .ok (.istore 7, 2) := dk_54 7 (dk_at dksX1_round_4 18 rfl rfl)
theorem dX1_round_116 : decode cX1_round 116 = .ok (.iload 7, 2) := dk_21 7 (dk_at dksX1_round_4 20 rfl rfl)
theorem dX1_round_118 : decode cX1_round 118 = .ok (.aload_n 0, 1) := dk_42 (dk_at dksX1_round_4 22 rfl rfl)
theorem dX1_round_119 : decode cX1_round 119 = .ok (.getfield 86, 3) := dk_180 0 86 (dk_at dksX1_round_5 0 rfl rfl)
theorem dX1_round_122 : decode cX1_round 122 = .ok (.iconst 1, 1) := dk_4 (dk_at dksX1_round_5 3 rfl rfl)
theorem dX1_round_123 : decode cX1_round 123 = .ok (.isub, 1) := dk_100 (dk_at dksX1_round_5 4 rfl rfl)
theorem dX1_round_124 : decode cX1_round 124 = .ok (.if_icmp .ge 23, 3) := dk_162 0 23 (dk_at dksX1_round_5 5 rfl rfl)
theorem dX1_round_127 : decode cX1_round 127 = .ok (.aload_n 0, 1) := dk_42 (dk_at dksX1_round_5 8 rfl rfl)
theorem dX1_round_128 : decode cX1_round 128 = .ok (.getfield 70, 3) := dk_180 0 70 (dk_at dksX1_round_5 9 rfl rfl)
theorem dX1_round_131 : decode cX1_round 131 = .ok (.iload 7, 2) := dk_21 7 (dk_at dksX1_round_5 12 rfl rfl)
theorem dX1_round_133 : decode cX1_round 133 = .ok (.aload_n 0, 1) := dk_42 (dk_at dksX1_round_5 14 rfl rfl)
theorem dX1_round_134 : decode cX1_round 134 = .ok (.getfield 67, 3) := dk_180 0 67 (dk_at dksX1_round_5 15 rfl rfl)
theorem dX1_round_137 : decode cX1_round 137 = .ok (.iload 7, 2) := dk_21 7 (dk_at dksX1_round_5 18 rfl rfl)
theorem dX1_round_139 : decode cX1_round 139 = .ok (.iaload, 1) := dk_46 (dk_at dksX1_round_5 20 rfl rfl)
theorem dX1_round_140 : decode cX1_round 140 = .ok (.iastore, 1) := dk_79 (dk_at dksX1_round_5 21 rfl rfl)
theorem dX1_round_141 : decode cX1_round 141 = .ok (.iinc 7 1, 3) := dk_132 7 1 (dk_at dksX1_round_6 0 rfl rfl)
theorem dX1_round_144 : decode cX1_round 144 = .ok (.goto (-28), 3) := dk_167 255 228 (dk_at dksX1_round_6 3 rfl rfl)
theorem dX1_round_147 : decode cX1_round 147 = .ok (.aload_n 0, 1) := dk_42 (dk_at dksX1_round_6 6 rfl rfl)
theorem dX1_round_148 : decode cX1_round 148 = .ok (.aload_n 0, 1) := dk_42 (dk_at dksX1_round_6 7 rfl rfl)
theorem dX1_round_149 : decode cX1_round 149 = .ok (.getfield 86, 3) := dk_180 0 86 (dk_at dksX1_round_6 8 rfl rfl)
theorem dX1_round_152 : decode cX1_round 152 = .ok (.iconst 1, 1) := dk_4 (dk_at dksX1_round_6 11 rfl rfl)
theorem dX1_round_153 : decode cX1_round 153 = .ok (.isub, 1) := dk_100 (dk_at dksX1_round_6 12 rfl rfl)
theorem dX1_round_154 : decode cX1_round 154 = .ok (.invokevirtual 200, 3) := dk_182 0 200 (dk_at dksX1_round_6 13 rfl rfl)
theorem dX1_round_157 : decode cX1_round 157 = .ok (.istore 5, 2) := dk_54 5 (dk_at dksX1_round_6 16 rfl rfl)
theorem dX1_round_159 : decode cX1_round 159 = .ok (.goto (-70), 3) := dk_167 255 186 (dk_at dksX1_round_6 18 rfl rfl)
theorem dX1_round_162 : decode cX1_round 162 = .ok (.iload 4, 2) := dk_21 4 (dk_at dksX1_round_6 21 rfl rfl)
theorem dX1_round_164 : decode cX1_round 164 = .ok (.sipush 9999, 3) := dk_17 39 15 (dk_at dksX1_round_7 0 rfl rfl)
theorem dX1_round_167 : decode cX1_round 167 = .ok (.if_icmp .ne 8, 3) := dk_160 0 8 (dk_at dksX1_round_7 3 rfl rfl)
theorem dX1_round_170 : decode cX1_round 170 = .ok (.bipush (-9), 2) := dk_16 247 (dk_at dksX1_round_7 6 rfl rfl)
theorem dX1_round_172 : decode cX1_round 172 = .ok (.goto 19, 3) := dk_167 0 19 (dk_at dksX1_round_7 8 rfl rfl)
theorem dX1_round_175 : decode cX1_round 175 = .ok (.iload_n 3, 1) := dk_29 (dk_at dksX1_round_7 11 rfl rfl)
theorem dX1_round_176 : decode cX1_round 176 = .ok (.iconst (-1), 1) := dk_2 (dk_at dksX1_round_7 12 rfl rfl)
theorem dX1_round_177 : decode cX1_round 177 = .ok (.if_icmp .ne 8, 3) := dk_160 0 8 (dk_at dksX1_round_7 13 rfl rfl)
theorem dX1_round_180 : decode cX1_round 180 = .ok (.iload 4, 2) := dk_21 4 (dk_at dksX1_round_7 16 rfl rfl)
theorem dX1_round_182 : decode cX1_round 182 = .ok (.goto 9, 3) := dk_167 0 9 (dk_at dksX1_round_7 18 rfl rfl)
theorem dX1_round_185 : decode cX1_round 185 = .ok (.aload_n 0, 1) := dk_42 (dk_at dksX1_round_7 21 rfl rfl)
theorem dX1_round_186 : decode cX1_round 186 = .ok (.getfield 70, 3) := dk_180 0 70 (dk_at dksX1_round_8 0 rfl rfl)
theorem dX1_round_189 : decode cX1_round 189 = .ok (.iload_n 3, 1) := dk_29 (dk_at dksX1_round_8 3 rfl rfl)
theorem dX1_round_190 : decode cX1_round 190 = .ok (.iaload, 1) := dk_46 (dk_at dksX1_round_8 4 rfl rfl)
theorem dX1_round_191 : decode cX1_round 191 = .ok (.ireturn, 1) := dk_172 (dk_at dksX1_round_8 5 rfl rfl)
abbrev cX1_overBy : ByteArray := prog_16_method_45_code
def yX1_overBy : MethodName := ⟨RX1, "overBy", "(II)I"⟩
def dkwX1_overBy_3 : List UInt8 := [21, 5, 42, 180, 0, 86, 5, 100, 162, 0, 7, 17, 39, 15, 172, 132, 5, 1, 167, 255, 174, 21, 4, 172]
abbrev dktX1_overBy_3 : List UInt8 := dkwX1_overBy_3 ++ []
def dkwX1_overBy_2 : List UInt8 := [4, 96, 54, 4, 21, 4, 17, 7, 208, 164, 0, 7, 17, 39, 15, 172, 21, 4, 17, 7, 208, 160, 0, 18]
abbrev dktX1_overBy_2 : List UInt8 := dkwX1_overBy_2 ++ dktX1_overBy_3
def dkwX1_overBy_1 : List UInt8 := [162, 0, 69, 42, 29, 21, 4, 182, 0, 178, 42, 180, 0, 67, 21, 5, 46, 62, 42, 180, 0, 61, 29, 46]
abbrev dktX1_overBy_1 : List UInt8 := dkwX1_overBy_1 ++ dktX1_overBy_2
def dkwX1_overBy_0 : List UInt8 := [27, 62, 28, 54, 4, 3, 54, 5, 21, 5, 42, 180, 0, 86, 4, 100, 162, 0, 77, 21, 4, 17, 7, 208]
abbrev dktX1_overBy_0 : List UInt8 := dkwX1_overBy_0 ++ dktX1_overBy_1
theorem dksX1_overBy_0 : cX1_overBy.data.toList.drop 0 = dktX1_overBy_0 := by decide +kernel
theorem dksX1_overBy_1 : cX1_overBy.data.toList.drop 24 = dktX1_overBy_1 := dk_seg dksX1_overBy_0 24 rfl rfl
theorem dksX1_overBy_2 : cX1_overBy.data.toList.drop 48 = dktX1_overBy_2 := dk_seg dksX1_overBy_1 24 rfl rfl
theorem dksX1_overBy_3 : cX1_overBy.data.toList.drop 72 = dktX1_overBy_3 := dk_seg dksX1_overBy_2 24 rfl rfl
theorem dX1_overBy_0 : decode cX1_overBy 0 = .ok (.iload_n 1, 1) := dk_27 (dk_at dksX1_overBy_0 0 rfl rfl)
theorem dX1_overBy_1 : decode cX1_overBy 1 = .ok (.istore_n 3, 1) := dk_62 (dk_at dksX1_overBy_0 1 rfl rfl)
theorem dX1_overBy_2 : decode cX1_overBy 2 = .ok (.iload_n 2, 1) := dk_28 (dk_at dksX1_overBy_0 2 rfl rfl)
theorem dX1_overBy_3 : decode cX1_overBy 3 = .ok (.istore 4, 2) := dk_54 4 (dk_at dksX1_overBy_0 3 rfl rfl)
theorem dX1_overBy_5 : decode cX1_overBy 5 = .ok (.iconst 0, 1) := dk_3 (dk_at dksX1_overBy_0 5 rfl rfl)
theorem dX1_overBy_6 : decode cX1_overBy 6 = .ok (.istore 5, 2) := dk_54 5 (dk_at dksX1_overBy_0 6 rfl rfl)
theorem dX1_overBy_8 : decode cX1_overBy 8 = .ok (.iload 5, 2) := dk_21 5 (dk_at dksX1_overBy_0 8 rfl rfl)
theorem dX1_overBy_10 : decode cX1_overBy 10 = .ok (.aload_n 0, 1) := dk_42 (dk_at dksX1_overBy_0 10 rfl rfl)
theorem dX1_overBy_11 : decode cX1_overBy 11 = .ok (.getfield 86, 3) := dk_180 0 86 (dk_at dksX1_overBy_0 11 rfl rfl)
theorem dX1_overBy_14 : decode cX1_overBy 14 = .ok (.iconst 1, 1) := dk_4 (dk_at dksX1_overBy_0 14 rfl rfl)
theorem dX1_overBy_15 : decode cX1_overBy 15 = .ok (.isub, 1) := dk_100 (dk_at dksX1_overBy_0 15 rfl rfl)
theorem dX1_overBy_16 : decode cX1_overBy 16 = .ok (.if_icmp .ge 77, 3) := dk_162 0 77 (dk_at dksX1_overBy_0 16 rfl rfl)
theorem dX1_overBy_19 : decode cX1_overBy 19 = .ok (.iload 4, 2) := dk_21 4 (dk_at dksX1_overBy_0 19 rfl rfl)
theorem dX1_overBy_21 : decode cX1_overBy 21 = .ok (.sipush 2000, 3) := dk_17 7 208 (dk_at dksX1_overBy_0 21 rfl rfl)
theorem dX1_overBy_24 : decode cX1_overBy 24 = .ok (.if_icmp .ge 69, 3) := dk_162 0 69 (dk_at dksX1_overBy_1 0 rfl rfl)
theorem dX1_overBy_27 : decode cX1_overBy 27 = .ok (.aload_n 0, 1) := dk_42 (dk_at dksX1_overBy_1 3 rfl rfl)
theorem dX1_overBy_28 : decode cX1_overBy 28 = .ok (.iload_n 3, 1) := dk_29 (dk_at dksX1_overBy_1 4 rfl rfl)
theorem dX1_overBy_29 : decode cX1_overBy 29 = .ok (.iload 4, 2) := dk_21 4 (dk_at dksX1_overBy_1 5 rfl rfl)
theorem dX1_overBy_31 : decode cX1_overBy 31 = .ok (.invokevirtual 178, 3) := dk_182 0 178 (dk_at dksX1_overBy_1 7 rfl rfl)
theorem dX1_overBy_34 : decode cX1_overBy 34 = .ok (.aload_n 0, 1) := dk_42 (dk_at dksX1_overBy_1 10 rfl rfl)
theorem dX1_overBy_35 : decode cX1_overBy 35 = .ok (.getfield 67, 3) := dk_180 0 67 (dk_at dksX1_overBy_1 11 rfl rfl)
theorem dX1_overBy_38 : decode cX1_overBy 38 = .ok (.iload 5, 2) := dk_21 5 (dk_at dksX1_overBy_1 14 rfl rfl)
theorem dX1_overBy_40 : decode cX1_overBy 40 = .ok (.iaload, 1) := dk_46 (dk_at dksX1_overBy_1 16 rfl rfl)
theorem dX1_overBy_41 : decode cX1_overBy 41 = .ok (.istore_n 3, 1) := dk_62 (dk_at dksX1_overBy_1 17 rfl rfl)
theorem dX1_overBy_42 : decode cX1_overBy 42 = .ok (.aload_n 0, 1) := dk_42 (dk_at dksX1_overBy_1 18 rfl rfl)
theorem dX1_overBy_43 : decode cX1_overBy 43 = .ok (.getfield 61, 3) := dk_180 0 61 (dk_at dksX1_overBy_1 19 rfl rfl)
theorem dX1_overBy_46 : decode cX1_overBy 46 = .ok (.iload_n 3, 1) := dk_29 (dk_at dksX1_overBy_1 22 rfl rfl)
theorem dX1_overBy_47 : decode cX1_overBy 47 = .ok (.iaload, 1) := dk_46 (dk_at dksX1_overBy_1 23 rfl rfl)
theorem dX1_overBy_48 : decode cX1_overBy 48 = .ok (.iconst 1, 1) := dk_4 (dk_at dksX1_overBy_2 0 rfl rfl)
theorem dX1_overBy_49 : decode cX1_overBy 49 = .ok (.iadd, 1) := dk_96 (dk_at dksX1_overBy_2 1 rfl rfl)
theorem dX1_overBy_50 : decode cX1_overBy 50 = .ok (.istore 4, 2) := dk_54 4 (dk_at dksX1_overBy_2 2 rfl rfl)
theorem dX1_overBy_52 : decode cX1_overBy 52 = .ok (.iload 4, 2) := dk_21 4 (dk_at dksX1_overBy_2 4 rfl rfl)
theorem dX1_overBy_54 : decode cX1_overBy 54 = .ok (.sipush 2000, 3) := dk_17 7 208 (dk_at dksX1_overBy_2 6 rfl rfl)
theorem dX1_overBy_57 : decode cX1_overBy 57 = .ok (.if_icmp .le 7, 3) := dk_164 0 7 (dk_at dksX1_overBy_2 9 rfl rfl)
theorem dX1_overBy_60 : decode cX1_overBy 60 = .ok (.sipush 9999, 3) := dk_17 39 15 (dk_at dksX1_overBy_2 12 rfl rfl)
theorem dX1_overBy_63 : decode cX1_overBy 63 = .ok (.ireturn, 1) := dk_172 (dk_at dksX1_overBy_2 15 rfl rfl)
theorem dX1_overBy_64 : decode cX1_overBy 64 = .ok (.iload 4, 2) := dk_21 4 (dk_at dksX1_overBy_2 16 rfl rfl)
theorem dX1_overBy_66 : decode cX1_overBy 66 = .ok (.sipush 2000, 3) := dk_17 7 208 (dk_at dksX1_overBy_2 18 rfl rfl)
theorem dX1_overBy_69 : decode cX1_overBy 69 = .ok (.if_icmp .ne 18, 3) := dk_160 0 18 (dk_at dksX1_overBy_2 21 rfl rfl)
theorem dX1_overBy_72 : decode cX1_overBy 72 = .ok (.iload 5, 2) := dk_21 5 (dk_at dksX1_overBy_3 0 rfl rfl)
theorem dX1_overBy_74 : decode cX1_overBy 74 = .ok (.aload_n 0, 1) := dk_42 (dk_at dksX1_overBy_3 2 rfl rfl)
theorem dX1_overBy_75 : decode cX1_overBy 75 = .ok (.getfield 86, 3) := dk_180 0 86 (dk_at dksX1_overBy_3 3 rfl rfl)
theorem dX1_overBy_78 : decode cX1_overBy 78 = .ok (.iconst 2, 1) := dk_5 (dk_at dksX1_overBy_3 6 rfl rfl)
theorem dX1_overBy_79 : decode cX1_overBy 79 = .ok (.isub, 1) := dk_100 (dk_at dksX1_overBy_3 7 rfl rfl)
theorem dX1_overBy_80 : decode cX1_overBy 80 = .ok (.if_icmp .ge 7, 3) := dk_162 0 7 (dk_at dksX1_overBy_3 8 rfl rfl)
theorem dX1_overBy_83 : decode cX1_overBy 83 = .ok (.sipush 9999, 3) := dk_17 39 15 (dk_at dksX1_overBy_3 11 rfl rfl)
theorem dX1_overBy_86 : decode cX1_overBy 86 = .ok (.ireturn, 1) := dk_172 (dk_at dksX1_overBy_3 14 rfl rfl)
theorem dX1_overBy_87 : decode cX1_overBy 87 = .ok (.iinc 5 1, 3) := dk_132 5 1 (dk_at dksX1_overBy_3 15 rfl rfl)
theorem dX1_overBy_90 : decode cX1_overBy 90 = .ok (.goto (-82), 3) := dk_167 255 174 (dk_at dksX1_overBy_3 18 rfl rfl)
theorem dX1_overBy_93 : decode cX1_overBy 93 = .ok (.iload 4, 2) := dk_21 4 (dk_at dksX1_overBy_3 21 rfl rfl)
theorem dX1_overBy_95 : decode cX1_overBy 95 = .ok (.ireturn, 1) := dk_172 (dk_at dksX1_overBy_3 23 rfl rfl)
abbrev cX1_nextOrder : ByteArray := prog_16_method_46_code
def yX1_nextOrder : MethodName := ⟨RX1, "nextOrder", "(I)Z"⟩
def dkwX1_nextOrder_4 : List UInt8 := [132, 4, 1, 132, 5, 255, 167, 255, 235, 4, 172]
abbrev dktX1_nextOrder_4 : List UInt8 := dkwX1_nextOrder_4 ++ []
def dkwX1_nextOrder_3 : List UInt8 := [96, 54, 4, 27, 4, 100, 54, 5, 21, 4, 21, 5, 162, 0, 20, 42, 21, 4, 21, 5, 182, 0, 194]
abbrev dktX1_nextOrder_3 : List UInt8 := dkwX1_nextOrder_3 ++ dktX1_nextOrder_4
def dkwX1_nextOrder_2 : List UInt8 := [46, 42, 180, 0, 67, 28, 46, 162, 0, 9, 132, 3, 255, 167, 255, 238, 42, 28, 29, 182, 0, 194, 28, 4]
abbrev dktX1_nextOrder_2 : List UInt8 := dkwX1_nextOrder_2 ++ dktX1_nextOrder_3
def dkwX1_nextOrder_1 : List UInt8 := [164, 0, 9, 132, 2, 255, 167, 255, 232, 28, 156, 0, 5, 3, 172, 27, 4, 100, 62, 42, 180, 0, 67, 29]
abbrev dktX1_nextOrder_1 : List UInt8 := dkwX1_nextOrder_1 ++ dktX1_nextOrder_2
def dkwX1_nextOrder_0 : List UInt8 := [27, 5, 100, 61, 28, 155, 0, 26, 42, 180, 0, 67, 28, 46, 42, 180, 0, 67, 28, 4, 96, 46]
abbrev dktX1_nextOrder_0 : List UInt8 := dkwX1_nextOrder_0 ++ dktX1_nextOrder_1
theorem dksX1_nextOrder_0 : cX1_nextOrder.data.toList.drop 0 = dktX1_nextOrder_0 := by decide +kernel
theorem dksX1_nextOrder_1 : cX1_nextOrder.data.toList.drop 22 = dktX1_nextOrder_1 := dk_seg dksX1_nextOrder_0 22 rfl rfl
theorem dksX1_nextOrder_2 : cX1_nextOrder.data.toList.drop 46 = dktX1_nextOrder_2 := dk_seg dksX1_nextOrder_1 24 rfl rfl
theorem dksX1_nextOrder_3 : cX1_nextOrder.data.toList.drop 70 = dktX1_nextOrder_3 := dk_seg dksX1_nextOrder_2 24 rfl rfl
theorem dksX1_nextOrder_4 : cX1_nextOrder.data.toList.drop 93 = dktX1_nextOrder_4 := dk_seg dksX1_nextOrder_3 23 rfl rfl
theorem dX1_nextOrder_0 : decode cX1_nextOrder 0 = .ok (.iload_n 1, 1) := dk_27 (dk_at dksX1_nextOrder_0 0 rfl rfl)
theorem dX1_nextOrder_1 : decode cX1_nextOrder 1 = .ok (.iconst 2, 1) := dk_5 (dk_at dksX1_nextOrder_0 1 rfl rfl)
theorem dX1_nextOrder_2 : decode cX1_nextOrder 2 = .ok (.isub, 1) := dk_100 (dk_at dksX1_nextOrder_0 2 rfl rfl)
theorem dX1_nextOrder_3 : decode cX1_nextOrder 3 = .ok (.istore_n 2, 1) := dk_61 (dk_at dksX1_nextOrder_0 3 rfl rfl)
theorem dX1_nextOrder_4 : decode cX1_nextOrder 4 = .ok (.iload_n 2, 1) := dk_28 (dk_at dksX1_nextOrder_0 4 rfl rfl)
theorem dX1_nextOrder_5 : decode cX1_nextOrder 5 = .ok (.ifCond .lt 26, 3) := dk_155 0 26 (dk_at dksX1_nextOrder_0 5 rfl rfl)
theorem dX1_nextOrder_8 : decode cX1_nextOrder 8 = .ok (.aload_n 0, 1) := dk_42 (dk_at dksX1_nextOrder_0 8 rfl rfl)
theorem dX1_nextOrder_9 : decode cX1_nextOrder 9 = .ok (.getfield 67, 3) := dk_180 0 67 (dk_at dksX1_nextOrder_0 9 rfl rfl)
theorem dX1_nextOrder_12 : decode cX1_nextOrder 12 = .ok (.iload_n 2, 1) := dk_28 (dk_at dksX1_nextOrder_0 12 rfl rfl)
theorem dX1_nextOrder_13 : decode cX1_nextOrder 13 = .ok (.iaload, 1) := dk_46 (dk_at dksX1_nextOrder_0 13 rfl rfl)
theorem dX1_nextOrder_14 : decode cX1_nextOrder 14 = .ok (.aload_n 0, 1) := dk_42 (dk_at dksX1_nextOrder_0 14 rfl rfl)
theorem dX1_nextOrder_15 : decode cX1_nextOrder 15 = .ok (.getfield 67, 3) := dk_180 0 67 (dk_at dksX1_nextOrder_0 15 rfl rfl)
theorem dX1_nextOrder_18 : decode cX1_nextOrder 18 = .ok (.iload_n 2, 1) := dk_28 (dk_at dksX1_nextOrder_0 18 rfl rfl)
theorem dX1_nextOrder_19 : decode cX1_nextOrder 19 = .ok (.iconst 1, 1) := dk_4 (dk_at dksX1_nextOrder_0 19 rfl rfl)
theorem dX1_nextOrder_20 : decode cX1_nextOrder 20 = .ok (.iadd, 1) := dk_96 (dk_at dksX1_nextOrder_0 20 rfl rfl)
theorem dX1_nextOrder_21 : decode cX1_nextOrder 21 = .ok (.iaload, 1) := dk_46 (dk_at dksX1_nextOrder_0 21 rfl rfl)
theorem dX1_nextOrder_22 : decode cX1_nextOrder 22 = .ok (.if_icmp .le 9, 3) := dk_164 0 9 (dk_at dksX1_nextOrder_1 0 rfl rfl)
theorem dX1_nextOrder_25 : decode cX1_nextOrder 25 = .ok (.iinc 2 (-1), 3) := dk_132 2 255 (dk_at dksX1_nextOrder_1 3 rfl rfl)
theorem dX1_nextOrder_28 : decode cX1_nextOrder 28 = .ok (.goto (-24), 3) := dk_167 255 232 (dk_at dksX1_nextOrder_1 6 rfl rfl)
theorem dX1_nextOrder_31 : decode cX1_nextOrder 31 = .ok (.iload_n 2, 1) := dk_28 (dk_at dksX1_nextOrder_1 9 rfl rfl)
theorem dX1_nextOrder_32 : decode cX1_nextOrder 32 = .ok (.ifCond .ge 5, 3) := dk_156 0 5 (dk_at dksX1_nextOrder_1 10 rfl rfl)
theorem dX1_nextOrder_35 : decode cX1_nextOrder 35 = .ok (.iconst 0, 1) := dk_3 (dk_at dksX1_nextOrder_1 13 rfl rfl)
theorem dX1_nextOrder_36 : decode cX1_nextOrder 36 = .ok (.ireturn, 1) := dk_172 (dk_at dksX1_nextOrder_1 14 rfl rfl)
theorem dX1_nextOrder_37 : decode cX1_nextOrder 37 = .ok (.iload_n 1, 1) := dk_27 (dk_at dksX1_nextOrder_1 15 rfl rfl)
theorem dX1_nextOrder_38 : decode cX1_nextOrder 38 = .ok (.iconst 1, 1) := dk_4 (dk_at dksX1_nextOrder_1 16 rfl rfl)
theorem dX1_nextOrder_39 : decode cX1_nextOrder 39 = .ok (.isub, 1) := dk_100 (dk_at dksX1_nextOrder_1 17 rfl rfl)
theorem dX1_nextOrder_40 : decode cX1_nextOrder 40 = .ok (.istore_n 3, 1) := dk_62 (dk_at dksX1_nextOrder_1 18 rfl rfl)
theorem dX1_nextOrder_41 : decode cX1_nextOrder 41 = .ok (.aload_n 0, 1) := dk_42 (dk_at dksX1_nextOrder_1 19 rfl rfl)
theorem dX1_nextOrder_42 : decode cX1_nextOrder 42 = .ok (.getfield 67, 3) := dk_180 0 67 (dk_at dksX1_nextOrder_1 20 rfl rfl)
theorem dX1_nextOrder_45 : decode cX1_nextOrder 45 = .ok (.iload_n 3, 1) := dk_29 (dk_at dksX1_nextOrder_1 23 rfl rfl)
theorem dX1_nextOrder_46 : decode cX1_nextOrder 46 = .ok (.iaload, 1) := dk_46 (dk_at dksX1_nextOrder_2 0 rfl rfl)
theorem dX1_nextOrder_47 : decode cX1_nextOrder 47 = .ok (.aload_n 0, 1) := dk_42 (dk_at dksX1_nextOrder_2 1 rfl rfl)
theorem dX1_nextOrder_48 : decode cX1_nextOrder 48 = .ok (.getfield 67, 3) := dk_180 0 67 (dk_at dksX1_nextOrder_2 2 rfl rfl)
theorem dX1_nextOrder_51 : decode cX1_nextOrder 51 = .ok (.iload_n 2, 1) := dk_28 (dk_at dksX1_nextOrder_2 5 rfl rfl)
theorem dX1_nextOrder_52 : decode cX1_nextOrder 52 = .ok (.iaload, 1) := dk_46 (dk_at dksX1_nextOrder_2 6 rfl rfl)
theorem dX1_nextOrder_53 : decode cX1_nextOrder 53 = .ok (.if_icmp .ge 9, 3) := dk_162 0 9 (dk_at dksX1_nextOrder_2 7 rfl rfl)
theorem dX1_nextOrder_56 : decode cX1_nextOrder 56 = .ok (.iinc 3 (-1), 3) := dk_132 3 255 (dk_at dksX1_nextOrder_2 10 rfl rfl)
theorem dX1_nextOrder_59 : decode cX1_nextOrder 59 = .ok (.goto (-18), 3) := dk_167 255 238 (dk_at dksX1_nextOrder_2 13 rfl rfl)
theorem dX1_nextOrder_62 : decode cX1_nextOrder 62 = .ok (.aload_n 0, 1) := dk_42 (dk_at dksX1_nextOrder_2 16 rfl rfl)
theorem dX1_nextOrder_63 : decode cX1_nextOrder 63 = .ok (.iload_n 2, 1) := dk_28 (dk_at dksX1_nextOrder_2 17 rfl rfl)
theorem dX1_nextOrder_64 : decode cX1_nextOrder 64 = .ok (.iload_n 3, 1) := dk_29 (dk_at dksX1_nextOrder_2 18 rfl rfl)
theorem dX1_nextOrder_65 : decode cX1_nextOrder 65 = .ok (.invokevirtual 194, 3) := dk_182 0 194 (dk_at dksX1_nextOrder_2 19 rfl rfl)
theorem dX1_nextOrder_68 : decode cX1_nextOrder 68 = .ok (.iload_n 2, 1) := dk_28 (dk_at dksX1_nextOrder_2 22 rfl rfl)
theorem dX1_nextOrder_69 : decode cX1_nextOrder 69 = .ok (.iconst 1, 1) := dk_4 (dk_at dksX1_nextOrder_2 23 rfl rfl)
theorem dX1_nextOrder_70 : decode cX1_nextOrder 70 = .ok (.iadd, 1) := dk_96 (dk_at dksX1_nextOrder_3 0 rfl rfl)
theorem dX1_nextOrder_71 : decode cX1_nextOrder 71 = .ok (.istore 4, 2) := dk_54 4 (dk_at dksX1_nextOrder_3 1 rfl rfl)
theorem dX1_nextOrder_73 : decode cX1_nextOrder 73 = .ok (.iload_n 1, 1) := dk_27 (dk_at dksX1_nextOrder_3 3 rfl rfl)
theorem dX1_nextOrder_74 : decode cX1_nextOrder 74 = .ok (.iconst 1, 1) := dk_4 (dk_at dksX1_nextOrder_3 4 rfl rfl)
theorem dX1_nextOrder_75 : decode cX1_nextOrder 75 = .ok (.isub, 1) := dk_100 (dk_at dksX1_nextOrder_3 5 rfl rfl)
theorem dX1_nextOrder_76 : decode cX1_nextOrder 76 = .ok (.istore 5, 2) := dk_54 5 (dk_at dksX1_nextOrder_3 6 rfl rfl)
theorem dX1_nextOrder_78 : decode cX1_nextOrder 78 = .ok (.iload 4, 2) := dk_21 4 (dk_at dksX1_nextOrder_3 8 rfl rfl)
theorem dX1_nextOrder_80 : decode cX1_nextOrder 80 = .ok (.iload 5, 2) := dk_21 5 (dk_at dksX1_nextOrder_3 10 rfl rfl)
theorem dX1_nextOrder_82 : decode cX1_nextOrder 82 = .ok (.if_icmp .ge 20, 3) := dk_162 0 20 (dk_at dksX1_nextOrder_3 12 rfl rfl)
theorem dX1_nextOrder_85 : decode cX1_nextOrder 85 = .ok (.aload_n 0, 1) := dk_42 (dk_at dksX1_nextOrder_3 15 rfl rfl)
theorem dX1_nextOrder_86 : decode cX1_nextOrder 86 = .ok (.iload 4, 2) := dk_21 4 (dk_at dksX1_nextOrder_3 16 rfl rfl)
theorem dX1_nextOrder_88 : decode cX1_nextOrder 88 = .ok (.iload 5, 2) := dk_21 5 (dk_at dksX1_nextOrder_3 18 rfl rfl)
theorem dX1_nextOrder_90 : decode cX1_nextOrder 90 = .ok (.invokevirtual 194, 3) := dk_182 0 194 (dk_at dksX1_nextOrder_3 20 rfl rfl)
theorem dX1_nextOrder_93 : decode cX1_nextOrder 93 = .ok (.iinc 4 1, 3) := dk_132 4 1 (dk_at dksX1_nextOrder_4 0 rfl rfl)
theorem dX1_nextOrder_96 : decode cX1_nextOrder 96 = .ok (.iinc 5 (-1), 3) := dk_132 5 255 (dk_at dksX1_nextOrder_4 3 rfl rfl)
theorem dX1_nextOrder_99 : decode cX1_nextOrder 99 = .ok (.goto (-21), 3) := dk_167 255 235 (dk_at dksX1_nextOrder_4 6 rfl rfl)
theorem dX1_nextOrder_102 : decode cX1_nextOrder 102 = .ok (.iconst 1, 1) := dk_4 (dk_at dksX1_nextOrder_4 9 rfl rfl)
theorem dX1_nextOrder_103 : decode cX1_nextOrder 103 = .ok (.ireturn, 1) := dk_172 (dk_at dksX1_nextOrder_4 10 rfl rfl)
abbrev cX1_exchange : ByteArray := prog_16_method_47_code
def yX1_exchange : MethodName := ⟨RX1, "exchange", "(II)V"⟩
def dkwX1_exchange_1 : List UInt8 := [29, 79, 177]
abbrev dktX1_exchange_1 : List UInt8 := dkwX1_exchange_1 ++ []
def dkwX1_exchange_0 : List UInt8 := [42, 180, 0, 67, 27, 46, 62, 42, 180, 0, 67, 27, 42, 180, 0, 67, 28, 46, 79, 42, 180, 0, 67, 28]
abbrev dktX1_exchange_0 : List UInt8 := dkwX1_exchange_0 ++ dktX1_exchange_1
theorem dksX1_exchange_0 : cX1_exchange.data.toList.drop 0 = dktX1_exchange_0 := by decide +kernel
theorem dksX1_exchange_1 : cX1_exchange.data.toList.drop 24 = dktX1_exchange_1 := dk_seg dksX1_exchange_0 24 rfl rfl
theorem dX1_exchange_0 : decode cX1_exchange 0 = .ok (.aload_n 0, 1) := dk_42 (dk_at dksX1_exchange_0 0 rfl rfl)
theorem dX1_exchange_1 : decode cX1_exchange 1 = .ok (.getfield 67, 3) := dk_180 0 67 (dk_at dksX1_exchange_0 1 rfl rfl)
theorem dX1_exchange_4 : decode cX1_exchange 4 = .ok (.iload_n 1, 1) := dk_27 (dk_at dksX1_exchange_0 4 rfl rfl)
theorem dX1_exchange_5 : decode cX1_exchange 5 = .ok (.iaload, 1) := dk_46 (dk_at dksX1_exchange_0 5 rfl rfl)
theorem dX1_exchange_6 : decode cX1_exchange 6 = .ok (.istore_n 3, 1) := dk_62 (dk_at dksX1_exchange_0 6 rfl rfl)
theorem dX1_exchange_7 : decode cX1_exchange 7 = .ok (.aload_n 0, 1) := dk_42 (dk_at dksX1_exchange_0 7 rfl rfl)
theorem dX1_exchange_8 : decode cX1_exchange 8 = .ok (.getfield 67, 3) := dk_180 0 67 (dk_at dksX1_exchange_0 8 rfl rfl)
theorem dX1_exchange_11 : decode cX1_exchange 11 = .ok (.iload_n 1, 1) := dk_27 (dk_at dksX1_exchange_0 11 rfl rfl)
theorem dX1_exchange_12 : decode cX1_exchange 12 = .ok (.aload_n 0, 1) := dk_42 (dk_at dksX1_exchange_0 12 rfl rfl)
theorem dX1_exchange_13 : decode cX1_exchange 13 = .ok (.getfield 67, 3) := dk_180 0 67 (dk_at dksX1_exchange_0 13 rfl rfl)
theorem dX1_exchange_16 : decode cX1_exchange 16 = .ok (.iload_n 2, 1) := dk_28 (dk_at dksX1_exchange_0 16 rfl rfl)
theorem dX1_exchange_17 : decode cX1_exchange 17 = .ok (.iaload, 1) := dk_46 (dk_at dksX1_exchange_0 17 rfl rfl)
theorem dX1_exchange_18 : decode cX1_exchange 18 = .ok (.iastore, 1) := dk_79 (dk_at dksX1_exchange_0 18 rfl rfl)
theorem dX1_exchange_19 : decode cX1_exchange 19 = .ok (.aload_n 0, 1) := dk_42 (dk_at dksX1_exchange_0 19 rfl rfl)
theorem dX1_exchange_20 : decode cX1_exchange 20 = .ok (.getfield 67, 3) := dk_180 0 67 (dk_at dksX1_exchange_0 20 rfl rfl)
theorem dX1_exchange_23 : decode cX1_exchange 23 = .ok (.iload_n 2, 1) := dk_28 (dk_at dksX1_exchange_0 23 rfl rfl)
theorem dX1_exchange_24 : decode cX1_exchange 24 = .ok (.iload_n 3, 1) := dk_29 (dk_at dksX1_exchange_1 0 rfl rfl)
theorem dX1_exchange_25 : decode cX1_exchange 25 = .ok (.iastore, 1) := dk_79 (dk_at dksX1_exchange_1 1 rfl rfl)
theorem dX1_exchange_26 : decode cX1_exchange 26 = .ok (.return_, 1) := dk_177 (dk_at dksX1_exchange_1 2 rfl rfl)
abbrev cX1_meeting : ByteArray := prog_16_method_49_code
def yX1_meeting : MethodName := ⟨RX1, "meeting", "(III)I"⟩
def dkwX1_meeting_10 : List UInt8 := [167, 0, 19, 29, 154, 0, 13, 42, 180, 0, 73, 21, 4, 46, 167, 0, 5, 21, 4, 172]
abbrev dktX1_meeting_10 : List UInt8 := dkwX1_meeting_10 ++ []
def dkwX1_meeting_9 : List UInt8 := [54, 4, 132, 5, 1, 167, 255, 218, 42, 180, 0, 73, 21, 4, 46, 17, 7, 208, 164, 0, 8, 16, 247]
abbrev dktX1_meeting_9 : List UInt8 := dkwX1_meeting_9 ++ dktX1_meeting_10
def dkwX1_meeting_8 : List UInt8 := [180, 0, 73, 21, 5, 46, 42, 180, 0, 73, 21, 4, 46, 162, 0, 8, 21, 5, 167, 0, 5, 21, 4]
abbrev dktX1_meeting_8 : List UInt8 := dkwX1_meeting_8 ++ dktX1_meeting_9
def dkwX1_meeting_7 : List UInt8 := [132, 4, 1, 167, 255, 168, 3, 54, 4, 4, 54, 5, 21, 5, 42, 180, 0, 86, 162, 0, 35, 42]
abbrev dktX1_meeting_7 : List UInt8 := dkwX1_meeting_7 ++ dktX1_meeting_8
def dkwX1_meeting_6 : List UInt8 := [180, 0, 61, 21, 5, 46, 167, 0, 10, 42, 180, 0, 73, 21, 5, 46, 79, 132, 5, 1, 167, 255, 203]
abbrev dktX1_meeting_6 : List UInt8 := dkwX1_meeting_6 ++ dktX1_meeting_7
def dkwX1_meeting_5 : List UInt8 := [180, 0, 73, 21, 5, 42, 180, 0, 61, 21, 5, 46, 42, 180, 0, 73, 21, 5, 46, 164, 0, 13, 42]
abbrev dktX1_meeting_5 : List UInt8 := dkwX1_meeting_5 ++ dktX1_meeting_6
def dkwX1_meeting_4 : List UInt8 := [4, 160, 0, 69, 42, 21, 4, 28, 182, 0, 178, 3, 54, 5, 21, 5, 42, 180, 0, 86, 162, 0, 50, 42]
abbrev dktX1_meeting_4 : List UInt8 := dkwX1_meeting_4 ++ dktX1_meeting_5
def dkwX1_meeting_3 : List UInt8 := [132, 4, 1, 167, 255, 236, 3, 54, 4, 21, 4, 42, 180, 0, 86, 162, 0, 85, 27, 21, 4, 122, 4, 126]
abbrev dktX1_meeting_3 : List UInt8 := dkwX1_meeting_3 ++ dktX1_meeting_4
def dkwX1_meeting_2 : List UInt8 := [182, 0, 174, 3, 54, 4, 21, 4, 42, 180, 0, 86, 162, 0, 17, 42, 180, 0, 73, 21, 4, 3, 79]
abbrev dktX1_meeting_2 : List UInt8 := dkwX1_meeting_2 ++ dktX1_meeting_3
def dkwX1_meeting_1 : List UInt8 := [4, 184, 0, 82, 154, 0, 6, 16, 254, 172, 42, 182, 0, 140, 154, 0, 6, 16, 253, 172, 42, 3]
abbrev dktX1_meeting_1 : List UInt8 := dkwX1_meeting_1 ++ dktX1_meeting_2
def dkwX1_meeting_0 : List UInt8 := [27, 4, 161, 0, 29, 27, 4, 42, 180, 0, 86, 120, 162, 0, 19, 28, 184, 0, 137, 153, 0, 12, 29, 3]
abbrev dktX1_meeting_0 : List UInt8 := dkwX1_meeting_0 ++ dktX1_meeting_1
theorem dksX1_meeting_0 : cX1_meeting.data.toList.drop 0 = dktX1_meeting_0 := by decide +kernel
theorem dksX1_meeting_1 : cX1_meeting.data.toList.drop 24 = dktX1_meeting_1 := dk_seg dksX1_meeting_0 24 rfl rfl
theorem dksX1_meeting_2 : cX1_meeting.data.toList.drop 46 = dktX1_meeting_2 := dk_seg dksX1_meeting_1 22 rfl rfl
theorem dksX1_meeting_3 : cX1_meeting.data.toList.drop 69 = dktX1_meeting_3 := dk_seg dksX1_meeting_2 23 rfl rfl
theorem dksX1_meeting_4 : cX1_meeting.data.toList.drop 93 = dktX1_meeting_4 := dk_seg dksX1_meeting_3 24 rfl rfl
theorem dksX1_meeting_5 : cX1_meeting.data.toList.drop 117 = dktX1_meeting_5 := dk_seg dksX1_meeting_4 24 rfl rfl
theorem dksX1_meeting_6 : cX1_meeting.data.toList.drop 140 = dktX1_meeting_6 := dk_seg dksX1_meeting_5 23 rfl rfl
theorem dksX1_meeting_7 : cX1_meeting.data.toList.drop 163 = dktX1_meeting_7 := dk_seg dksX1_meeting_6 23 rfl rfl
theorem dksX1_meeting_8 : cX1_meeting.data.toList.drop 185 = dktX1_meeting_8 := dk_seg dksX1_meeting_7 22 rfl rfl
theorem dksX1_meeting_9 : cX1_meeting.data.toList.drop 208 = dktX1_meeting_9 := dk_seg dksX1_meeting_8 23 rfl rfl
theorem dksX1_meeting_10 : cX1_meeting.data.toList.drop 231 = dktX1_meeting_10 := dk_seg dksX1_meeting_9 23 rfl rfl
theorem dX1_meeting_0 : decode cX1_meeting 0 = .ok (.iload_n 1, 1) := dk_27 (dk_at dksX1_meeting_0 0 rfl rfl)
theorem dX1_meeting_1 : decode cX1_meeting 1 = .ok (.iconst 1, 1) := dk_4 (dk_at dksX1_meeting_0 1 rfl rfl)
theorem dX1_meeting_2 : decode cX1_meeting 2 = .ok (.if_icmp .lt 29, 3) := dk_161 0 29 (dk_at dksX1_meeting_0 2 rfl rfl)
theorem dX1_meeting_5 : decode cX1_meeting 5 = .ok (.iload_n 1, 1) := dk_27 (dk_at dksX1_meeting_0 5 rfl rfl)
theorem dX1_meeting_6 : decode cX1_meeting 6 = .ok (.iconst 1, 1) := dk_4 (dk_at dksX1_meeting_0 6 rfl rfl)
theorem dX1_meeting_7 : decode cX1_meeting 7 = .ok (.aload_n 0, 1) := dk_42 (dk_at dksX1_meeting_0 7 rfl rfl)
theorem dX1_meeting_8 : decode cX1_meeting 8 = .ok (.getfield 86, 3) := dk_180 0 86 (dk_at dksX1_meeting_0 8 rfl rfl)
theorem dX1_meeting_11 : decode cX1_meeting 11 = .ok (.ishl, 1) := dk_120 (dk_at dksX1_meeting_0 11 rfl rfl)
theorem dX1_meeting_12 : decode cX1_meeting 12 = .ok (.if_icmp .ge 19, 3) := dk_162 0 19 (dk_at dksX1_meeting_0 12 rfl rfl)
theorem dX1_meeting_15 : decode cX1_meeting 15 = .ok (.iload_n 2, 1) := dk_28 (dk_at dksX1_meeting_0 15 rfl rfl)
theorem dX1_meeting_16 : decode cX1_meeting 16 = .ok (.invokestatic 137, 3) := dk_184 0 137 (dk_at dksX1_meeting_0 16 rfl rfl)
theorem dX1_meeting_19 : decode cX1_meeting 19 = .ok (.ifCond .eq 12, 3) := dk_153 0 12 (dk_at dksX1_meeting_0 19 rfl rfl)
theorem dX1_meeting_22 : decode cX1_meeting 22 = .ok (.iload_n 3, 1) := dk_29 (dk_at dksX1_meeting_0 22 rfl rfl)
theorem dX1_meeting_23 : decode cX1_meeting 23 = .ok (.iconst 0, 1) := dk_3 (dk_at dksX1_meeting_0 23 rfl rfl)
theorem dX1_meeting_24 : decode cX1_meeting 24 = .ok (.iconst 1, 1) := dk_4 (dk_at dksX1_meeting_1 0 rfl rfl)
theorem dX1_meeting_25 : decode cX1_meeting 25 = .ok (.invokestatic 82, 3) := dk_184 0 82 (dk_at dksX1_meeting_1 1 rfl rfl)
theorem dX1_meeting_28 : decode cX1_meeting 28 = .ok (.ifCond .ne 6, 3) := dk_154 0 6 (dk_at dksX1_meeting_1 4 rfl rfl)
theorem dX1_meeting_31 : decode cX1_meeting 31 = .ok (.bipush (-2), 2) := dk_16 254 (dk_at dksX1_meeting_1 7 rfl rfl)
theorem dX1_meeting_33 : decode cX1_meeting 33 = .ok (.ireturn, 1) := dk_172 (dk_at dksX1_meeting_1 9 rfl rfl)
theorem dX1_meeting_34 : decode cX1_meeting 34 = .ok (.aload_n 0, 1) := dk_42 (dk_at dksX1_meeting_1 10 rfl rfl)
theorem dX1_meeting_35 : decode cX1_meeting 35 = .ok (.invokevirtual 140, 3) := dk_182 0 140 (dk_at dksX1_meeting_1 11 rfl rfl)
theorem dX1_meeting_38 : decode cX1_meeting 38 = .ok (.ifCond .ne 6, 3) := dk_154 0 6 (dk_at dksX1_meeting_1 14 rfl rfl)
theorem dX1_meeting_41 : decode cX1_meeting 41 = .ok (.bipush (-3), 2) := dk_16 253 (dk_at dksX1_meeting_1 17 rfl rfl)
theorem dX1_meeting_43 : decode cX1_meeting 43 = .ok (.ireturn, 1) := dk_172 (dk_at dksX1_meeting_1 19 rfl rfl)
theorem dX1_meeting_44 : decode cX1_meeting 44 = .ok (.aload_n 0, 1) := dk_42 (dk_at dksX1_meeting_1 20 rfl rfl)
theorem dX1_meeting_45 : decode cX1_meeting 45 = .ok (.iconst 0, 1) := dk_3 (dk_at dksX1_meeting_1 21 rfl rfl)
theorem dX1_meeting_46 : decode cX1_meeting 46 = .ok (.invokevirtual 174, 3) := dk_182 0 174 (dk_at dksX1_meeting_2 0 rfl rfl)
theorem dX1_meeting_49 : decode cX1_meeting 49 = .ok (.iconst 0, 1) := dk_3 (dk_at dksX1_meeting_2 3 rfl rfl)
theorem dX1_meeting_50 : decode cX1_meeting 50 = .ok (.istore 4, 2) := dk_54 4 (dk_at dksX1_meeting_2 4 rfl rfl)
theorem dX1_meeting_52 : decode cX1_meeting 52 = .ok (.iload 4, 2) := dk_21 4 (dk_at dksX1_meeting_2 6 rfl rfl)
theorem dX1_meeting_54 : decode cX1_meeting 54 = .ok (.aload_n 0, 1) := dk_42 (dk_at dksX1_meeting_2 8 rfl rfl)
theorem dX1_meeting_55 : decode cX1_meeting 55 = .ok (.getfield 86, 3) := dk_180 0 86 (dk_at dksX1_meeting_2 9 rfl rfl)
theorem dX1_meeting_58 : decode cX1_meeting 58 = .ok (.if_icmp .ge 17, 3) := dk_162 0 17 (dk_at dksX1_meeting_2 12 rfl rfl)
theorem dX1_meeting_61 : decode cX1_meeting 61 = .ok (.aload_n 0, 1) := dk_42 (dk_at dksX1_meeting_2 15 rfl rfl)
theorem dX1_meeting_62 : decode cX1_meeting 62 = .ok (.getfield 73, 3) := dk_180 0 73 (dk_at dksX1_meeting_2 16 rfl rfl)
theorem dX1_meeting_65 : decode cX1_meeting 65 = .ok (.iload 4, 2) := dk_21 4 (dk_at dksX1_meeting_2 19 rfl rfl)
theorem dX1_meeting_67 : decode cX1_meeting 67 = .ok (.iconst 0, 1) := dk_3 (dk_at dksX1_meeting_2 21 rfl rfl)
theorem dX1_meeting_68 : decode cX1_meeting 68 = .ok (.iastore, 1) := dk_79 (dk_at dksX1_meeting_2 22 rfl rfl)
theorem dX1_meeting_69 : decode cX1_meeting 69 = .ok (.iinc 4 1, 3) := dk_132 4 1 (dk_at dksX1_meeting_3 0 rfl rfl)
theorem dX1_meeting_72 : decode cX1_meeting 72 = .ok (.goto (-20), 3) := dk_167 255 236 (dk_at dksX1_meeting_3 3 rfl rfl)
theorem dX1_meeting_75 : decode cX1_meeting 75 = .ok (.iconst 0, 1) := dk_3 (dk_at dksX1_meeting_3 6 rfl rfl)
theorem dX1_meeting_76 : decode cX1_meeting 76 = .ok (.istore 4, 2) := dk_54 4 (dk_at dksX1_meeting_3 7 rfl rfl)
theorem dX1_meeting_78 : decode cX1_meeting 78 = .ok (.iload 4, 2) := dk_21 4 (dk_at dksX1_meeting_3 9 rfl rfl)
theorem dX1_meeting_80 : decode cX1_meeting 80 = .ok (.aload_n 0, 1) := dk_42 (dk_at dksX1_meeting_3 11 rfl rfl)
theorem dX1_meeting_81 : decode cX1_meeting 81 = .ok (.getfield 86, 3) := dk_180 0 86 (dk_at dksX1_meeting_3 12 rfl rfl)
theorem dX1_meeting_84 : decode cX1_meeting 84 = .ok (.if_icmp .ge 85, 3) := dk_162 0 85 (dk_at dksX1_meeting_3 15 rfl rfl)
theorem dX1_meeting_87 : decode cX1_meeting 87 = .ok (.iload_n 1, 1) := dk_27 (dk_at dksX1_meeting_3 18 rfl rfl)
theorem dX1_meeting_88 : decode cX1_meeting 88 = .ok (.iload 4, 2) := dk_21 4 (dk_at dksX1_meeting_3 19 rfl rfl)
theorem dX1_meeting_90 : decode cX1_meeting 90 = .ok (.ishr, 1) := dk_122 (dk_at dksX1_meeting_3 21 rfl rfl)
theorem dX1_meeting_91 : decode cX1_meeting 91 = .ok (.iconst 1, 1) := dk_4 (dk_at dksX1_meeting_3 22 rfl rfl)
theorem dX1_meeting_92 : decode cX1_meeting 92 = .ok (.iand, 1) := dk_126 (dk_at dksX1_meeting_3 23 rfl rfl)
theorem dX1_meeting_93 : decode cX1_meeting 93 = .ok (.iconst 1, 1) := dk_4 (dk_at dksX1_meeting_4 0 rfl rfl)
theorem dX1_meeting_94 : decode cX1_meeting 94 = .ok (.if_icmp .ne 69, 3) := dk_160 0 69 (dk_at dksX1_meeting_4 1 rfl rfl)
theorem dX1_meeting_97 : decode cX1_meeting 97 = .ok (.aload_n 0, 1) := dk_42 (dk_at dksX1_meeting_4 4 rfl rfl)
theorem dX1_meeting_98 : decode cX1_meeting 98 = .ok (.iload 4, 2) := dk_21 4 (dk_at dksX1_meeting_4 5 rfl rfl)
theorem dX1_meeting_100 : decode cX1_meeting 100 = .ok (.iload_n 2, 1) := dk_28 (dk_at dksX1_meeting_4 7 rfl rfl)
theorem dX1_meeting_101 : decode cX1_meeting 101 = .ok (.invokevirtual 178, 3) := dk_182 0 178 (dk_at dksX1_meeting_4 8 rfl rfl)
theorem dX1_meeting_104 : decode cX1_meeting 104 = .ok (.iconst 0, 1) := dk_3 (dk_at dksX1_meeting_4 11 rfl rfl)
theorem dX1_meeting_105 : decode cX1_meeting 105 = .ok (.istore 5, 2) := dk_54 5 (dk_at dksX1_meeting_4 12 rfl rfl)
theorem dX1_meeting_107 : decode cX1_meeting 107 = .ok (.iload 5, 2) := dk_21 5 (dk_at dksX1_meeting_4 14 rfl rfl)
theorem dX1_meeting_109 : decode cX1_meeting 109 = .ok (.aload_n 0, 1) := dk_42 (dk_at dksX1_meeting_4 16 rfl rfl)
theorem dX1_meeting_110 : decode cX1_meeting 110 = .ok (.getfield 86, 3) := dk_180 0 86 (dk_at dksX1_meeting_4 17 rfl rfl)
theorem dX1_meeting_113 : decode cX1_meeting 113 = .ok (.if_icmp .ge 50, 3) := dk_162 0 50 (dk_at dksX1_meeting_4 20 rfl rfl)
theorem dX1_meeting_116 : decode cX1_meeting 116 = .ok (.aload_n 0, 1) := dk_42 (dk_at dksX1_meeting_4 23 rfl rfl)
theorem dX1_meeting_117 : decode cX1_meeting 117 = .ok (.getfield 73, 3) := dk_180 0 73 (dk_at dksX1_meeting_5 0 rfl rfl)
theorem dX1_meeting_120 : decode cX1_meeting 120 = .ok (.iload 5, 2) := dk_21 5 (dk_at dksX1_meeting_5 3 rfl rfl)
theorem dX1_meeting_122 : decode cX1_meeting 122 = .ok (.aload_n 0, 1) := dk_42 (dk_at dksX1_meeting_5 5 rfl rfl)
theorem dX1_meeting_123 : decode cX1_meeting 123 = .ok (.getfield 61, 3) := dk_180 0 61 (dk_at dksX1_meeting_5 6 rfl rfl)
theorem dX1_meeting_126 : decode cX1_meeting 126 = .ok (.iload 5, 2) := dk_21 5 (dk_at dksX1_meeting_5 9 rfl rfl)
theorem dX1_meeting_128 : decode cX1_meeting 128 = .ok (.iaload, 1) := dk_46 (dk_at dksX1_meeting_5 11 rfl rfl)
theorem dX1_meeting_129 : decode cX1_meeting 129 = .ok (.aload_n 0, 1) := dk_42 (dk_at dksX1_meeting_5 12 rfl rfl)
theorem dX1_meeting_130 : decode cX1_meeting 130 = .ok (.getfield 73, 3) := dk_180 0 73 (dk_at dksX1_meeting_5 13 rfl rfl)
theorem dX1_meeting_133 : decode cX1_meeting 133 = .ok (.iload 5, 2) := dk_21 5 (dk_at dksX1_meeting_5 16 rfl rfl)
theorem dX1_meeting_135 : decode cX1_meeting 135 = .ok (.iaload, 1) := dk_46 (dk_at dksX1_meeting_5 18 rfl rfl)
theorem dX1_meeting_136 : decode cX1_meeting 136 = .ok (.if_icmp .le 13, 3) := dk_164 0 13 (dk_at dksX1_meeting_5 19 rfl rfl)
theorem dX1_meeting_139 : decode cX1_meeting 139 = .ok (.aload_n 0, 1) := dk_42 (dk_at dksX1_meeting_5 22 rfl rfl)
theorem dX1_meeting_140 : decode cX1_meeting 140 = .ok (.getfield 61, 3) := dk_180 0 61 (dk_at dksX1_meeting_6 0 rfl rfl)
theorem dX1_meeting_143 : decode cX1_meeting 143 = .ok (.iload 5, 2) := dk_21 5 (dk_at dksX1_meeting_6 3 rfl rfl)
theorem dX1_meeting_145 : decode cX1_meeting 145 = .ok (.iaload, 1) := dk_46 (dk_at dksX1_meeting_6 5 rfl rfl)
theorem dX1_meeting_146 : decode cX1_meeting 146 = .ok (.goto 10, 3) := dk_167 0 10 (dk_at dksX1_meeting_6 6 rfl rfl)
theorem dX1_meeting_149 : decode cX1_meeting 149 = .ok (.aload_n 0, 1) := dk_42 (dk_at dksX1_meeting_6 9 rfl rfl)
theorem dX1_meeting_150 : decode cX1_meeting 150 = .ok (.getfield 73, 3) := dk_180 0 73 (dk_at dksX1_meeting_6 10 rfl rfl)
theorem dX1_meeting_153 : decode cX1_meeting 153 = .ok (.iload 5, 2) := dk_21 5 (dk_at dksX1_meeting_6 13 rfl rfl)
theorem dX1_meeting_155 : decode cX1_meeting 155 = .ok (.iaload, 1) := dk_46 (dk_at dksX1_meeting_6 15 rfl rfl)
theorem dX1_meeting_156 : decode cX1_meeting 156 = .ok (.iastore, 1) := dk_79 (dk_at dksX1_meeting_6 16 rfl rfl)
theorem dX1_meeting_157 : decode cX1_meeting 157 = .ok (.iinc 5 1, 3) := dk_132 5 1 (dk_at dksX1_meeting_6 17 rfl rfl)
theorem dX1_meeting_160 : decode cX1_meeting 160 = .ok (.goto (-53), 3) := dk_167 255 203 (dk_at dksX1_meeting_6 20 rfl rfl)
theorem dX1_meeting_163 : decode cX1_meeting 163 = .ok (.iinc 4 1, 3) := dk_132 4 1 (dk_at dksX1_meeting_7 0 rfl rfl)
theorem dX1_meeting_166 : decode cX1_meeting 166 = .ok (.goto (-88), 3) := dk_167 255 168 (dk_at dksX1_meeting_7 3 rfl rfl)
theorem dX1_meeting_169 : decode cX1_meeting 169 = .ok (.iconst 0, 1) := dk_3 (dk_at dksX1_meeting_7 6 rfl rfl)
theorem dX1_meeting_170 : decode cX1_meeting 170 = .ok (.istore 4, 2) := dk_54 4 (dk_at dksX1_meeting_7 7 rfl rfl)
theorem dX1_meeting_172 : decode cX1_meeting 172 = .ok (.iconst 1, 1) := dk_4 (dk_at dksX1_meeting_7 9 rfl rfl)
theorem dX1_meeting_173 : decode cX1_meeting 173 = .ok (.istore 5, 2) := dk_54 5 (dk_at dksX1_meeting_7 10 rfl rfl)
theorem dX1_meeting_175 : decode cX1_meeting 175 = .ok (.iload 5, 2) := dk_21 5 (dk_at dksX1_meeting_7 12 rfl rfl)
theorem dX1_meeting_177 : decode cX1_meeting 177 = .ok (.aload_n 0, 1) := dk_42 (dk_at dksX1_meeting_7 14 rfl rfl)
theorem dX1_meeting_178 : decode cX1_meeting 178 = .ok (.getfield 86, 3) := dk_180 0 86 (dk_at dksX1_meeting_7 15 rfl rfl)
theorem dX1_meeting_181 : decode cX1_meeting 181 = .ok (.if_icmp .ge 35, 3) := dk_162 0 35 (dk_at dksX1_meeting_7 18 rfl rfl)
theorem dX1_meeting_184 : decode cX1_meeting 184 = .ok (.aload_n 0, 1) := dk_42 (dk_at dksX1_meeting_7 21 rfl rfl)
theorem dX1_meeting_185 : decode cX1_meeting 185 = .ok (.getfield 73, 3) := dk_180 0 73 (dk_at dksX1_meeting_8 0 rfl rfl)
theorem dX1_meeting_188 : decode cX1_meeting 188 = .ok (.iload 5, 2) := dk_21 5 (dk_at dksX1_meeting_8 3 rfl rfl)
theorem dX1_meeting_190 : decode cX1_meeting 190 = .ok (.iaload, 1) := dk_46 (dk_at dksX1_meeting_8 5 rfl rfl)
theorem dX1_meeting_191 : decode cX1_meeting 191 = .ok (.aload_n 0, 1) := dk_42 (dk_at dksX1_meeting_8 6 rfl rfl)
theorem dX1_meeting_192 : decode cX1_meeting 192 = .ok (.getfield 73, 3) := dk_180 0 73 (dk_at dksX1_meeting_8 7 rfl rfl)
theorem dX1_meeting_195 : decode cX1_meeting 195 = .ok (.iload 4, 2) := dk_21 4 (dk_at dksX1_meeting_8 10 rfl rfl)
theorem dX1_meeting_197 : decode cX1_meeting 197 = .ok (.iaload, 1) := dk_46 (dk_at dksX1_meeting_8 12 rfl rfl)
theorem dX1_meeting_198 : decode cX1_meeting 198 = .ok (.if_icmp .ge 8, 3) := dk_162 0 8 (dk_at dksX1_meeting_8 13 rfl rfl)
theorem dX1_meeting_201 : decode cX1_meeting 201 = .ok (.iload 5, 2) := dk_21 5 (dk_at dksX1_meeting_8 16 rfl rfl)
theorem dX1_meeting_203 : decode cX1_meeting 203 = .ok (.goto 5, 3) := dk_167 0 5 (dk_at dksX1_meeting_8 18 rfl rfl)
theorem dX1_meeting_206 : decode cX1_meeting 206 = .ok (.iload 4, 2) := dk_21 4 (dk_at dksX1_meeting_8 21 rfl rfl)
theorem dX1_meeting_208 : decode cX1_meeting 208 = .ok (.istore 4, 2) := dk_54 4 (dk_at dksX1_meeting_9 0 rfl rfl)
theorem dX1_meeting_210 : decode cX1_meeting 210 = .ok (.iinc 5 1, 3) := dk_132 5 1 (dk_at dksX1_meeting_9 2 rfl rfl)
theorem dX1_meeting_213 : decode cX1_meeting 213 = .ok (.goto (-38), 3) := dk_167 255 218 (dk_at dksX1_meeting_9 5 rfl rfl)
theorem dX1_meeting_216 : decode cX1_meeting 216 = .ok (.aload_n 0, 1) := dk_42 (dk_at dksX1_meeting_9 8 rfl rfl)
theorem dX1_meeting_217 : decode cX1_meeting 217 = .ok (.getfield 73, 3) := dk_180 0 73 (dk_at dksX1_meeting_9 9 rfl rfl)
theorem dX1_meeting_220 : decode cX1_meeting 220 = .ok (.iload 4, 2) := dk_21 4 (dk_at dksX1_meeting_9 12 rfl rfl)
theorem dX1_meeting_222 : decode cX1_meeting 222 = .ok (.iaload, 1) := dk_46 (dk_at dksX1_meeting_9 14 rfl rfl)
theorem dX1_meeting_223 : decode cX1_meeting 223 = .ok (.sipush 2000, 3) := dk_17 7 208 (dk_at dksX1_meeting_9 15 rfl rfl)
theorem dX1_meeting_226 : decode cX1_meeting 226 = .ok (.if_icmp .le 8, 3) := dk_164 0 8 (dk_at dksX1_meeting_9 18 rfl rfl)
theorem dX1_meeting_229 : decode cX1_meeting 229 = .ok (.bipush (-9), 2) := dk_16 247 (dk_at dksX1_meeting_9 21 rfl rfl)
theorem dX1_meeting_231 : decode cX1_meeting 231 = .ok (.goto 19, 3) := dk_167 0 19 (dk_at dksX1_meeting_10 0 rfl rfl)
theorem dX1_meeting_234 : decode cX1_meeting 234 = .ok (.iload_n 3, 1) := dk_29 (dk_at dksX1_meeting_10 3 rfl rfl)
theorem dX1_meeting_235 : decode cX1_meeting 235 = .ok (.ifCond .ne 13, 3) := dk_154 0 13 (dk_at dksX1_meeting_10 4 rfl rfl)
theorem dX1_meeting_238 : decode cX1_meeting 238 = .ok (.aload_n 0, 1) := dk_42 (dk_at dksX1_meeting_10 7 rfl rfl)
theorem dX1_meeting_239 : decode cX1_meeting 239 = .ok (.getfield 73, 3) := dk_180 0 73 (dk_at dksX1_meeting_10 8 rfl rfl)
theorem dX1_meeting_242 : decode cX1_meeting 242 = .ok (.iload 4, 2) := dk_21 4 (dk_at dksX1_meeting_10 11 rfl rfl)
theorem dX1_meeting_244 : decode cX1_meeting 244 = .ok (.iaload, 1) := dk_46 (dk_at dksX1_meeting_10 13 rfl rfl)
theorem dX1_meeting_245 : decode cX1_meeting 245 = .ok (.goto 5, 3) := dk_167 0 5 (dk_at dksX1_meeting_10 14 rfl rfl)
theorem dX1_meeting_248 : decode cX1_meeting 248 = .ok (.iload 4, 2) := dk_21 4 (dk_at dksX1_meeting_10 17 rfl rfl)
theorem dX1_meeting_250 : decode cX1_meeting 250 = .ok (.ireturn, 1) := dk_172 (dk_at dksX1_meeting_10 19 rfl rfl)
abbrev cX1_saves : ByteArray := prog_16_method_50_code
def yX1_saves : MethodName := ⟨RX1, "saves", "(IIII)I"⟩
def dkwX1_saves_6 : List UInt8 := [29, 46, 100, 172]
abbrev dktX1_saves_6 : List UInt8 := dkwX1_saves_6 ++ []
def dkwX1_saves_5 : List UInt8 := [79, 42, 180, 0, 61, 29, 46, 17, 7, 208, 164, 0, 8, 16, 247, 167, 0, 12, 21, 5, 42, 180, 0, 61]
abbrev dktX1_saves_5 : List UInt8 := dkwX1_saves_5 ++ dktX1_saves_6
def dkwX1_saves_4 : List UInt8 := [4, 96, 79, 42, 3, 182, 0, 174, 42, 28, 21, 4, 182, 0, 178, 42, 180, 0, 52, 27, 92, 46, 4, 100]
abbrev dktX1_saves_4 : List UInt8 := dkwX1_saves_4 ++ dktX1_saves_5
def dkwX1_saves_3 : List UInt8 := [164, 0, 9, 17, 7, 209, 167, 0, 9, 42, 180, 0, 61, 29, 46, 54, 5, 42, 180, 0, 52, 27, 92, 46]
abbrev dktX1_saves_3 : List UInt8 := dkwX1_saves_3 ++ dktX1_saves_4
def dkwX1_saves_2 : List UInt8 := [172, 42, 3, 182, 0, 174, 42, 28, 21, 4, 182, 0, 178, 42, 180, 0, 61, 29, 46, 17, 7, 208]
abbrev dktX1_saves_2 : List UInt8 := dkwX1_saves_2 ++ dktX1_saves_3
def dkwX1_saves_1 : List UInt8 := [2, 172, 21, 4, 184, 0, 137, 154, 0, 6, 16, 254, 172, 42, 180, 0, 37, 27, 46, 154, 0, 6, 16, 253]
abbrev dktX1_saves_1 : List UInt8 := dkwX1_saves_1 ++ dktX1_saves_2
def dkwX1_saves_0 : List UInt8 := [42, 27, 182, 0, 153, 153, 0, 19, 42, 28, 182, 0, 150, 153, 0, 11, 42, 29, 182, 0, 150, 154, 0, 5]
abbrev dktX1_saves_0 : List UInt8 := dkwX1_saves_0 ++ dktX1_saves_1
theorem dksX1_saves_0 : cX1_saves.data.toList.drop 0 = dktX1_saves_0 := by decide +kernel
theorem dksX1_saves_1 : cX1_saves.data.toList.drop 24 = dktX1_saves_1 := dk_seg dksX1_saves_0 24 rfl rfl
theorem dksX1_saves_2 : cX1_saves.data.toList.drop 48 = dktX1_saves_2 := dk_seg dksX1_saves_1 24 rfl rfl
theorem dksX1_saves_3 : cX1_saves.data.toList.drop 70 = dktX1_saves_3 := dk_seg dksX1_saves_2 22 rfl rfl
theorem dksX1_saves_4 : cX1_saves.data.toList.drop 94 = dktX1_saves_4 := dk_seg dksX1_saves_3 24 rfl rfl
theorem dksX1_saves_5 : cX1_saves.data.toList.drop 118 = dktX1_saves_5 := dk_seg dksX1_saves_4 24 rfl rfl
theorem dksX1_saves_6 : cX1_saves.data.toList.drop 142 = dktX1_saves_6 := dk_seg dksX1_saves_5 24 rfl rfl
theorem dX1_saves_0 : decode cX1_saves 0 = .ok (.aload_n 0, 1) := dk_42 (dk_at dksX1_saves_0 0 rfl rfl)
theorem dX1_saves_1 : decode cX1_saves 1 = .ok (.iload_n 1, 1) := dk_27 (dk_at dksX1_saves_0 1 rfl rfl)
theorem dX1_saves_2 : decode cX1_saves 2 = .ok (.invokevirtual 153, 3) := dk_182 0 153 (dk_at dksX1_saves_0 2 rfl rfl)
theorem dX1_saves_5 : decode cX1_saves 5 = .ok (.ifCond .eq 19, 3) := dk_153 0 19 (dk_at dksX1_saves_0 5 rfl rfl)
theorem dX1_saves_8 : decode cX1_saves 8 = .ok (.aload_n 0, 1) := dk_42 (dk_at dksX1_saves_0 8 rfl rfl)
theorem dX1_saves_9 : decode cX1_saves 9 = .ok (.iload_n 2, 1) := dk_28 (dk_at dksX1_saves_0 9 rfl rfl)
theorem dX1_saves_10 : decode cX1_saves 10 = .ok (.invokevirtual 150, 3) := dk_182 0 150 (dk_at dksX1_saves_0 10 rfl rfl)
theorem dX1_saves_13 : decode cX1_saves 13 = .ok (.ifCond .eq 11, 3) := dk_153 0 11 (dk_at dksX1_saves_0 13 rfl rfl)
theorem dX1_saves_16 : decode cX1_saves 16 = .ok (.aload_n 0, 1) := dk_42 (dk_at dksX1_saves_0 16 rfl rfl)
theorem dX1_saves_17 : decode cX1_saves 17 = .ok (.iload_n 3, 1) := dk_29 (dk_at dksX1_saves_0 17 rfl rfl)
theorem dX1_saves_18 : decode cX1_saves 18 = .ok (.invokevirtual 150, 3) := dk_182 0 150 (dk_at dksX1_saves_0 18 rfl rfl)
theorem dX1_saves_21 : decode cX1_saves 21 = .ok (.ifCond .ne 5, 3) := dk_154 0 5 (dk_at dksX1_saves_0 21 rfl rfl)
theorem dX1_saves_24 : decode cX1_saves 24 = .ok (.iconst (-1), 1) := dk_2 (dk_at dksX1_saves_1 0 rfl rfl)
theorem dX1_saves_25 : decode cX1_saves 25 = .ok (.ireturn, 1) := dk_172 (dk_at dksX1_saves_1 1 rfl rfl)
theorem dX1_saves_26 : decode cX1_saves 26 = .ok (.iload 4, 2) := dk_21 4 (dk_at dksX1_saves_1 2 rfl rfl)
theorem dX1_saves_28 : decode cX1_saves 28 = .ok (.invokestatic 137, 3) := dk_184 0 137 (dk_at dksX1_saves_1 4 rfl rfl)
theorem dX1_saves_31 : decode cX1_saves 31 = .ok (.ifCond .ne 6, 3) := dk_154 0 6 (dk_at dksX1_saves_1 7 rfl rfl)
theorem dX1_saves_34 : decode cX1_saves 34 = .ok (.bipush (-2), 2) := dk_16 254 (dk_at dksX1_saves_1 10 rfl rfl)
theorem dX1_saves_36 : decode cX1_saves 36 = .ok (.ireturn, 1) := dk_172 (dk_at dksX1_saves_1 12 rfl rfl)
theorem dX1_saves_37 : decode cX1_saves 37 = .ok (.aload_n 0, 1) := dk_42 (dk_at dksX1_saves_1 13 rfl rfl)
theorem dX1_saves_38 : decode cX1_saves 38 = .ok (.getfield 37, 3) := dk_180 0 37 (dk_at dksX1_saves_1 14 rfl rfl)
theorem dX1_saves_41 : decode cX1_saves 41 = .ok (.iload_n 1, 1) := dk_27 (dk_at dksX1_saves_1 17 rfl rfl)
theorem dX1_saves_42 : decode cX1_saves 42 = .ok (.iaload, 1) := dk_46 (dk_at dksX1_saves_1 18 rfl rfl)
theorem dX1_saves_43 : decode cX1_saves 43 = .ok (.ifCond .ne 6, 3) := dk_154 0 6 (dk_at dksX1_saves_1 19 rfl rfl)
theorem dX1_saves_46 : decode cX1_saves 46 = .ok (.bipush (-3), 2) := dk_16 253 (dk_at dksX1_saves_1 22 rfl rfl)
theorem dX1_saves_48 : decode cX1_saves 48 = .ok (.ireturn, 1) := dk_172 (dk_at dksX1_saves_2 0 rfl rfl)
theorem dX1_saves_49 : decode cX1_saves 49 = .ok (.aload_n 0, 1) := dk_42 (dk_at dksX1_saves_2 1 rfl rfl)
theorem dX1_saves_50 : decode cX1_saves 50 = .ok (.iconst 0, 1) := dk_3 (dk_at dksX1_saves_2 2 rfl rfl)
theorem dX1_saves_51 : decode cX1_saves 51 = .ok (.invokevirtual 174, 3) := dk_182 0 174 (dk_at dksX1_saves_2 3 rfl rfl)
theorem dX1_saves_54 : decode cX1_saves 54 = .ok (.aload_n 0, 1) := dk_42 (dk_at dksX1_saves_2 6 rfl rfl)
theorem dX1_saves_55 : decode cX1_saves 55 = .ok (.iload_n 2, 1) := dk_28 (dk_at dksX1_saves_2 7 rfl rfl)
theorem dX1_saves_56 : decode cX1_saves 56 = .ok (.iload 4, 2) := dk_21 4 (dk_at dksX1_saves_2 8 rfl rfl)
theorem dX1_saves_58 : decode cX1_saves 58 = .ok (.invokevirtual 178, 3) := dk_182 0 178 (dk_at dksX1_saves_2 10 rfl rfl)
theorem dX1_saves_61 : decode cX1_saves 61 = .ok (.aload_n 0, 1) := dk_42 (dk_at dksX1_saves_2 13 rfl rfl)
theorem dX1_saves_62 : decode cX1_saves 62 = .ok (.getfield 61, 3) := dk_180 0 61 (dk_at dksX1_saves_2 14 rfl rfl)
theorem dX1_saves_65 : decode cX1_saves 65 = .ok (.iload_n 3, 1) := dk_29 (dk_at dksX1_saves_2 17 rfl rfl)
theorem dX1_saves_66 : decode cX1_saves 66 = .ok (.iaload, 1) := dk_46 (dk_at dksX1_saves_2 18 rfl rfl)
theorem dX1_saves_67 : decode cX1_saves 67 = .ok (.sipush 2000, 3) := dk_17 7 208 (dk_at dksX1_saves_2 19 rfl rfl)
theorem dX1_saves_70 : decode cX1_saves 70 = .ok (.if_icmp .le 9, 3) := dk_164 0 9 (dk_at dksX1_saves_3 0 rfl rfl)
theorem dX1_saves_73 : decode cX1_saves 73 = .ok (.sipush 2001, 3) := dk_17 7 209 (dk_at dksX1_saves_3 3 rfl rfl)
theorem dX1_saves_76 : decode cX1_saves 76 = .ok (.goto 9, 3) := dk_167 0 9 (dk_at dksX1_saves_3 6 rfl rfl)
theorem dX1_saves_79 : decode cX1_saves 79 = .ok (.aload_n 0, 1) := dk_42 (dk_at dksX1_saves_3 9 rfl rfl)
theorem dX1_saves_80 : decode cX1_saves 80 = .ok (.getfield 61, 3) := dk_180 0 61 (dk_at dksX1_saves_3 10 rfl rfl)
theorem dX1_saves_83 : decode cX1_saves 83 = .ok (.iload_n 3, 1) := dk_29 (dk_at dksX1_saves_3 13 rfl rfl)
theorem dX1_saves_84 : decode cX1_saves 84 = .ok (.iaload, 1) := dk_46 (dk_at dksX1_saves_3 14 rfl rfl)
theorem dX1_saves_85 : decode cX1_saves 85 = .ok (.istore 5, 2) := dk_54 5 (dk_at dksX1_saves_3 15 rfl rfl)
theorem dX1_saves_87 : decode cX1_saves 87 = .ok (.aload_n 0, 1) := dk_42 (dk_at dksX1_saves_3 17 rfl rfl)
theorem dX1_saves_88 : decode cX1_saves 88 = .ok (.getfield 52, 3) := dk_180 0 52 (dk_at dksX1_saves_3 18 rfl rfl)
theorem dX1_saves_91 : decode cX1_saves 91 = .ok (.iload_n 1, 1) := dk_27 (dk_at dksX1_saves_3 21 rfl rfl)
theorem dX1_saves_92 : decode cX1_saves 92 = .ok (.dup2, 1) := dk_92 (dk_at dksX1_saves_3 22 rfl rfl)
theorem dX1_saves_93 : decode cX1_saves 93 = .ok (.iaload, 1) := dk_46 (dk_at dksX1_saves_3 23 rfl rfl)
theorem dX1_saves_94 : decode cX1_saves 94 = .ok (.iconst 1, 1) := dk_4 (dk_at dksX1_saves_4 0 rfl rfl)
theorem dX1_saves_95 : decode cX1_saves 95 = .ok (.iadd, 1) := dk_96 (dk_at dksX1_saves_4 1 rfl rfl)
theorem dX1_saves_96 : decode cX1_saves 96 = .ok (.iastore, 1) := dk_79 (dk_at dksX1_saves_4 2 rfl rfl)
theorem dX1_saves_97 : decode cX1_saves 97 = .ok (.aload_n 0, 1) := dk_42 (dk_at dksX1_saves_4 3 rfl rfl)
theorem dX1_saves_98 : decode cX1_saves 98 = .ok (.iconst 0, 1) := dk_3 (dk_at dksX1_saves_4 4 rfl rfl)
theorem dX1_saves_99 : decode cX1_saves 99 = .ok (.invokevirtual 174, 3) := dk_182 0 174 (dk_at dksX1_saves_4 5 rfl rfl)
theorem dX1_saves_102 : decode cX1_saves 102 = .ok (.aload_n 0, 1) := dk_42 (dk_at dksX1_saves_4 8 rfl rfl)
theorem dX1_saves_103 : decode cX1_saves 103 = .ok (.iload_n 2, 1) := dk_28 (dk_at dksX1_saves_4 9 rfl rfl)
theorem dX1_saves_104 : decode cX1_saves 104 = .ok (.iload 4, 2) := dk_21 4 (dk_at dksX1_saves_4 10 rfl rfl)
theorem dX1_saves_106 : decode cX1_saves 106 = .ok (.invokevirtual 178, 3) := dk_182 0 178 (dk_at dksX1_saves_4 12 rfl rfl)
theorem dX1_saves_109 : decode cX1_saves 109 = .ok (.aload_n 0, 1) := dk_42 (dk_at dksX1_saves_4 15 rfl rfl)
theorem dX1_saves_110 : decode cX1_saves 110 = .ok (.getfield 52, 3) := dk_180 0 52 (dk_at dksX1_saves_4 16 rfl rfl)
theorem dX1_saves_113 : decode cX1_saves 113 = .ok (.iload_n 1, 1) := dk_27 (dk_at dksX1_saves_4 19 rfl rfl)
theorem dX1_saves_114 : decode cX1_saves 114 = .ok (.dup2, 1) := dk_92 (dk_at dksX1_saves_4 20 rfl rfl)
theorem dX1_saves_115 : decode cX1_saves 115 = .ok (.iaload, 1) := dk_46 (dk_at dksX1_saves_4 21 rfl rfl)
theorem dX1_saves_116 : decode cX1_saves 116 = .ok (.iconst 1, 1) := dk_4 (dk_at dksX1_saves_4 22 rfl rfl)
theorem dX1_saves_117 : decode cX1_saves 117 = .ok (.isub, 1) := dk_100 (dk_at dksX1_saves_4 23 rfl rfl)
theorem dX1_saves_118 : decode cX1_saves 118 = .ok (.iastore, 1) := dk_79 (dk_at dksX1_saves_5 0 rfl rfl)
theorem dX1_saves_119 : decode cX1_saves 119 = .ok (.aload_n 0, 1) := dk_42 (dk_at dksX1_saves_5 1 rfl rfl)
theorem dX1_saves_120 : decode cX1_saves 120 = .ok (.getfield 61, 3) := dk_180 0 61 (dk_at dksX1_saves_5 2 rfl rfl)
theorem dX1_saves_123 : decode cX1_saves 123 = .ok (.iload_n 3, 1) := dk_29 (dk_at dksX1_saves_5 5 rfl rfl)
theorem dX1_saves_124 : decode cX1_saves 124 = .ok (.iaload, 1) := dk_46 (dk_at dksX1_saves_5 6 rfl rfl)
theorem dX1_saves_125 : decode cX1_saves 125 = .ok (.sipush 2000, 3) := dk_17 7 208 (dk_at dksX1_saves_5 7 rfl rfl)
theorem dX1_saves_128 : decode cX1_saves 128 = .ok (.if_icmp .le 8, 3) := dk_164 0 8 (dk_at dksX1_saves_5 10 rfl rfl)
theorem dX1_saves_131 : decode cX1_saves 131 = .ok (.bipush (-9), 2) := dk_16 247 (dk_at dksX1_saves_5 13 rfl rfl)
theorem dX1_saves_133 : decode cX1_saves 133 = .ok (.goto 12, 3) := dk_167 0 12 (dk_at dksX1_saves_5 15 rfl rfl)
theorem dX1_saves_136 : decode cX1_saves 136 = .ok (.iload 5, 2) := dk_21 5 (dk_at dksX1_saves_5 18 rfl rfl)
theorem dX1_saves_138 : decode cX1_saves 138 = .ok (.aload_n 0, 1) := dk_42 (dk_at dksX1_saves_5 20 rfl rfl)
theorem dX1_saves_139 : decode cX1_saves 139 = .ok (.getfield 61, 3) := dk_180 0 61 (dk_at dksX1_saves_5 21 rfl rfl)
theorem dX1_saves_142 : decode cX1_saves 142 = .ok (.iload_n 3, 1) := dk_29 (dk_at dksX1_saves_6 0 rfl rfl)
theorem dX1_saves_143 : decode cX1_saves 143 = .ok (.iaload, 1) := dk_46 (dk_at dksX1_saves_6 1 rfl rfl)
theorem dX1_saves_144 : decode cX1_saves 144 = .ok (.isub, 1) := dk_100 (dk_at dksX1_saves_6 2 rfl rfl)
theorem dX1_saves_145 : decode cX1_saves 145 = .ok (.ireturn, 1) := dk_172 (dk_at dksX1_saves_6 3 rfl rfl)
abbrev cX1_table : ByteArray := prog_16_method_51_code
def yX1_table : MethodName := ⟨RX1, "table", "(IIIII)I"⟩
def dkwX1_table_5 : List UInt8 := [159, 0, 6, 21, 8, 172, 132, 8, 1, 167, 255, 222, 16, 247, 172]
abbrev dktX1_table_5 : List UInt8 := dkwX1_table_5 ++ []
def dkwX1_table_4 : List UInt8 := [21, 5, 162, 0, 33, 42, 180, 0, 16, 21, 7, 21, 8, 96, 46, 42, 27, 21, 8, 96, 182, 0, 144]
abbrev dktX1_table_4 : List UInt8 := dkwX1_table_4 ++ dktX1_table_5
def dkwX1_table_3 : List UInt8 := [17, 7, 208, 164, 0, 6, 16, 254, 172, 16, 60, 28, 104, 21, 4, 96, 54, 7, 3, 54, 8, 21, 8]
abbrev dktX1_table_3 : List UInt8 := dkwX1_table_3 ++ dktX1_table_4
def dkwX1_table_2 : List UInt8 := [153, 0, 10, 42, 21, 6, 182, 0, 107, 172, 42, 182, 0, 140, 154, 0, 6, 16, 253, 172, 27, 21, 5, 96]
abbrev dktX1_table_2 : List UInt8 := dkwX1_table_2 ++ dktX1_table_3
def dkwX1_table_1 : List UInt8 := [184, 0, 137, 154, 0, 6, 16, 254, 172, 42, 28, 29, 21, 4, 21, 5, 182, 0, 103, 54, 6, 21, 6]
abbrev dktX1_table_1 : List UInt8 := dkwX1_table_1 ++ dktX1_table_2
def dkwX1_table_0 : List UInt8 := [42, 3, 181, 0, 76, 28, 184, 0, 96, 154, 0, 5, 2, 172, 29, 184, 0, 100, 153, 0, 10, 27]
abbrev dktX1_table_0 : List UInt8 := dkwX1_table_0 ++ dktX1_table_1
theorem dksX1_table_0 : cX1_table.data.toList.drop 0 = dktX1_table_0 := by decide +kernel
theorem dksX1_table_1 : cX1_table.data.toList.drop 22 = dktX1_table_1 := dk_seg dksX1_table_0 22 rfl rfl
theorem dksX1_table_2 : cX1_table.data.toList.drop 45 = dktX1_table_2 := dk_seg dksX1_table_1 23 rfl rfl
theorem dksX1_table_3 : cX1_table.data.toList.drop 69 = dktX1_table_3 := dk_seg dksX1_table_2 24 rfl rfl
theorem dksX1_table_4 : cX1_table.data.toList.drop 92 = dktX1_table_4 := dk_seg dksX1_table_3 23 rfl rfl
theorem dksX1_table_5 : cX1_table.data.toList.drop 115 = dktX1_table_5 := dk_seg dksX1_table_4 23 rfl rfl
theorem dX1_table_0 : decode cX1_table 0 = .ok (.aload_n 0, 1) := dk_42 (dk_at dksX1_table_0 0 rfl rfl)
theorem dX1_table_1 : decode cX1_table 1 = .ok (.iconst 0, 1) := dk_3 (dk_at dksX1_table_0 1 rfl rfl)
theorem dX1_table_2 : decode cX1_table 2 = .ok (.putfield 76, 3) := dk_181 0 76 (dk_at dksX1_table_0 2 rfl rfl)
theorem dX1_table_5 : decode cX1_table 5 = .ok (.iload_n 2, 1) := dk_28 (dk_at dksX1_table_0 5 rfl rfl)
theorem dX1_table_6 : decode cX1_table 6 = .ok (.invokestatic 96, 3) := dk_184 0 96 (dk_at dksX1_table_0 6 rfl rfl)
theorem dX1_table_9 : decode cX1_table 9 = .ok (.ifCond .ne 5, 3) := dk_154 0 5 (dk_at dksX1_table_0 9 rfl rfl)
theorem dX1_table_12 : decode cX1_table 12 = .ok (.iconst (-1), 1) := dk_2 (dk_at dksX1_table_0 12 rfl rfl)
theorem dX1_table_13 : decode cX1_table 13 = .ok (.ireturn, 1) := dk_172 (dk_at dksX1_table_0 13 rfl rfl)
theorem dX1_table_14 : decode cX1_table 14 = .ok (.iload_n 3, 1) := dk_29 (dk_at dksX1_table_0 14 rfl rfl)
theorem dX1_table_15 : decode cX1_table 15 = .ok (.invokestatic 100, 3) := dk_184 0 100 (dk_at dksX1_table_0 15 rfl rfl)
theorem dX1_table_18 : decode cX1_table 18 = .ok (.ifCond .eq 10, 3) := dk_153 0 10 (dk_at dksX1_table_0 18 rfl rfl)
theorem dX1_table_21 : decode cX1_table 21 = .ok (.iload_n 1, 1) := dk_27 (dk_at dksX1_table_0 21 rfl rfl)
theorem dX1_table_22 : decode cX1_table 22 = .ok (.invokestatic 137, 3) := dk_184 0 137 (dk_at dksX1_table_1 0 rfl rfl)
theorem dX1_table_25 : decode cX1_table 25 = .ok (.ifCond .ne 6, 3) := dk_154 0 6 (dk_at dksX1_table_1 3 rfl rfl)
theorem dX1_table_28 : decode cX1_table 28 = .ok (.bipush (-2), 2) := dk_16 254 (dk_at dksX1_table_1 6 rfl rfl)
theorem dX1_table_30 : decode cX1_table 30 = .ok (.ireturn, 1) := dk_172 (dk_at dksX1_table_1 8 rfl rfl)
theorem dX1_table_31 : decode cX1_table 31 = .ok (.aload_n 0, 1) := dk_42 (dk_at dksX1_table_1 9 rfl rfl)
theorem dX1_table_32 : decode cX1_table 32 = .ok (.iload_n 2, 1) := dk_28 (dk_at dksX1_table_1 10 rfl rfl)
theorem dX1_table_33 : decode cX1_table 33 = .ok (.iload_n 3, 1) := dk_29 (dk_at dksX1_table_1 11 rfl rfl)
theorem dX1_table_34 : decode cX1_table 34 = .ok (.iload 4, 2) := dk_21 4 (dk_at dksX1_table_1 12 rfl rfl)
theorem dX1_table_36 : decode cX1_table 36 = .ok (.iload 5, 2) := dk_21 5 (dk_at dksX1_table_1 14 rfl rfl)
theorem dX1_table_38 : decode cX1_table 38 = .ok (.invokevirtual 103, 3) := dk_182 0 103 (dk_at dksX1_table_1 16 rfl rfl)
theorem dX1_table_41 : decode cX1_table 41 = .ok (.istore 6, 2) := dk_54 6 (dk_at dksX1_table_1 19 rfl rfl)
theorem dX1_table_43 : decode cX1_table 43 = .ok (.iload 6, 2) := dk_21 6 (dk_at dksX1_table_1 21 rfl rfl)
theorem dX1_table_45 : decode cX1_table 45 = .ok (.ifCond .eq 10, 3) := dk_153 0 10 (dk_at dksX1_table_2 0 rfl rfl)
theorem dX1_table_48 : decode cX1_table 48 = .ok (.aload_n 0, 1) := dk_42 (dk_at dksX1_table_2 3 rfl rfl)
theorem dX1_table_49 : decode cX1_table 49 = .ok (.iload 6, 2) := dk_21 6 (dk_at dksX1_table_2 4 rfl rfl)
theorem dX1_table_51 : decode cX1_table 51 = .ok (.invokevirtual 107, 3) := dk_182 0 107 (dk_at dksX1_table_2 6 rfl rfl)
theorem dX1_table_54 : decode cX1_table 54 = .ok (.ireturn, 1) := dk_172 (dk_at dksX1_table_2 9 rfl rfl)
theorem dX1_table_55 : decode cX1_table 55 = .ok (.aload_n 0, 1) := dk_42 (dk_at dksX1_table_2 10 rfl rfl)
theorem dX1_table_56 : decode cX1_table 56 = .ok (.invokevirtual 140, 3) := dk_182 0 140 (dk_at dksX1_table_2 11 rfl rfl)
theorem dX1_table_59 : decode cX1_table 59 = .ok (.ifCond .ne 6, 3) := dk_154 0 6 (dk_at dksX1_table_2 14 rfl rfl)
theorem dX1_table_62 : decode cX1_table 62 = .ok (.bipush (-3), 2) := dk_16 253 (dk_at dksX1_table_2 17 rfl rfl)
theorem dX1_table_64 : decode cX1_table 64 = .ok (.ireturn, 1) := dk_172 (dk_at dksX1_table_2 19 rfl rfl)
theorem dX1_table_65 : decode cX1_table 65 = .ok (.iload_n 1, 1) := dk_27 (dk_at dksX1_table_2 20 rfl rfl)
theorem dX1_table_66 : decode cX1_table 66 = .ok (.iload 5, 2) := dk_21 5 (dk_at dksX1_table_2 21 rfl rfl)
theorem dX1_table_68 : decode cX1_table 68 = .ok (.iadd, 1) := dk_96 (dk_at dksX1_table_2 23 rfl rfl)
theorem dX1_table_69 : decode cX1_table 69 = .ok (.sipush 2000, 3) := dk_17 7 208 (dk_at dksX1_table_3 0 rfl rfl)
theorem dX1_table_72 : decode cX1_table 72 = .ok (.if_icmp .le 6, 3) := dk_164 0 6 (dk_at dksX1_table_3 3 rfl rfl)
theorem dX1_table_75 : decode cX1_table 75 = .ok (.bipush (-2), 2) := dk_16 254 (dk_at dksX1_table_3 6 rfl rfl)
theorem dX1_table_77 : decode cX1_table 77 = .ok (.ireturn, 1) := dk_172 (dk_at dksX1_table_3 8 rfl rfl)
theorem dX1_table_78 : decode cX1_table 78 = .ok (.bipush 60, 2) := dk_16 60 (dk_at dksX1_table_3 9 rfl rfl)
theorem dX1_table_80 : decode cX1_table 80 = .ok (.iload_n 2, 1) := dk_28 (dk_at dksX1_table_3 11 rfl rfl)
theorem dX1_table_81 : decode cX1_table 81 = .ok (.imul, 1) := dk_104 (dk_at dksX1_table_3 12 rfl rfl)
theorem dX1_table_82 : decode cX1_table 82 = .ok (.iload 4, 2) := dk_21 4 (dk_at dksX1_table_3 13 rfl rfl)
theorem dX1_table_84 : decode cX1_table 84 = .ok (.iadd, 1) := dk_96 (dk_at dksX1_table_3 15 rfl rfl)
theorem dX1_table_85 : decode cX1_table 85 = .ok (.istore 7, 2) := dk_54 7 (dk_at dksX1_table_3 16 rfl rfl)
theorem dX1_table_87 : decode cX1_table 87 = .ok (.iconst 0, 1) := dk_3 (dk_at dksX1_table_3 18 rfl rfl)
theorem dX1_table_88 : decode cX1_table 88 = .ok (.istore 8, 2) := dk_54 8 (dk_at dksX1_table_3 19 rfl rfl)
theorem dX1_table_90 : decode cX1_table 90 = .ok (.iload 8, 2) := dk_21 8 (dk_at dksX1_table_3 21 rfl rfl)
theorem dX1_table_92 : decode cX1_table 92 = .ok (.iload 5, 2) := dk_21 5 (dk_at dksX1_table_4 0 rfl rfl)
theorem dX1_table_94 : decode cX1_table 94 = .ok (.if_icmp .ge 33, 3) := dk_162 0 33 (dk_at dksX1_table_4 2 rfl rfl)
theorem dX1_table_97 : decode cX1_table 97 = .ok (.aload_n 0, 1) := dk_42 (dk_at dksX1_table_4 5 rfl rfl)
theorem dX1_table_98 : decode cX1_table 98 = .ok (.getfield 16, 3) := dk_180 0 16 (dk_at dksX1_table_4 6 rfl rfl)
theorem dX1_table_101 : decode cX1_table 101 = .ok (.iload 7, 2) := dk_21 7 (dk_at dksX1_table_4 9 rfl rfl)
theorem dX1_table_103 : decode cX1_table 103 = .ok (.iload 8, 2) := dk_21 8 (dk_at dksX1_table_4 11 rfl rfl)
theorem dX1_table_105 : decode cX1_table 105 = .ok (.iadd, 1) := dk_96 (dk_at dksX1_table_4 13 rfl rfl)
theorem dX1_table_106 : decode cX1_table 106 = .ok (.iaload, 1) := dk_46 (dk_at dksX1_table_4 14 rfl rfl)
theorem dX1_table_107 : decode cX1_table 107 = .ok (.aload_n 0, 1) := dk_42 (dk_at dksX1_table_4 15 rfl rfl)
theorem dX1_table_108 : decode cX1_table 108 = .ok (.iload_n 1, 1) := dk_27 (dk_at dksX1_table_4 16 rfl rfl)
theorem dX1_table_109 : decode cX1_table 109 = .ok (.iload 8, 2) := dk_21 8 (dk_at dksX1_table_4 17 rfl rfl)
theorem dX1_table_111 : decode cX1_table 111 = .ok (.iadd, 1) := dk_96 (dk_at dksX1_table_4 19 rfl rfl)
theorem dX1_table_112 : decode cX1_table 112 = .ok (.invokevirtual 144, 3) := dk_182 0 144 (dk_at dksX1_table_4 20 rfl rfl)
theorem dX1_table_115 : decode cX1_table 115 = .ok (.if_icmp .eq 6, 3) := dk_159 0 6 (dk_at dksX1_table_5 0 rfl rfl)
theorem dX1_table_118 : decode cX1_table 118 = .ok (.iload 8, 2) := dk_21 8 (dk_at dksX1_table_5 3 rfl rfl)
theorem dX1_table_120 : decode cX1_table 120 = .ok (.ireturn, 1) := dk_172 (dk_at dksX1_table_5 5 rfl rfl)
theorem dX1_table_121 : decode cX1_table 121 = .ok (.iinc 8 1, 3) := dk_132 8 1 (dk_at dksX1_table_5 6 rfl rfl)
theorem dX1_table_124 : decode cX1_table 124 = .ok (.goto (-34), 3) := dk_167 255 222 (dk_at dksX1_table_5 9 rfl rfl)
theorem dX1_table_127 : decode cX1_table 127 = .ok (.bipush (-9), 2) := dk_16 247 (dk_at dksX1_table_5 12 rfl rfl)
theorem dX1_table_129 : decode cX1_table 129 = .ok (.ireturn, 1) := dk_172 (dk_at dksX1_table_5 14 rfl rfl)
abbrev cX1_book : ByteArray := prog_16_method_53_code
def yX1_book : MethodName := ⟨RX1, "book", "(IIII)I"⟩
def dkwX1_book_7 : List UInt8 := [132, 8, 1, 167, 255, 215, 21, 7, 172]
abbrev dktX1_book_7 : List UInt8 := dkwX1_book_7 ++ []
def dkwX1_book_6 : List UInt8 := [21, 4, 21, 8, 184, 0, 203, 153, 0, 12, 4, 21, 8, 5, 100, 120, 167, 0, 4, 3, 128, 54, 7]
abbrev dktX1_book_6 : List UInt8 := dkwX1_book_6 ++ dktX1_book_7
def dkwX1_book_5 : List UInt8 := [167, 255, 197, 3, 54, 7, 5, 54, 8, 21, 8, 16, 30, 163, 0, 40, 21, 7, 42, 180, 0, 16, 21, 6]
abbrev dktX1_book_5 : List UInt8 := dkwX1_book_5 ++ dktX1_book_6
def dkwX1_book_4 : List UInt8 := [46, 42, 180, 0, 16, 21, 6, 21, 7, 96, 4, 100, 46, 163, 0, 6, 16, 254, 172, 132, 7, 1]
abbrev dktX1_book_4 : List UInt8 := dkwX1_book_4 ++ dktX1_book_5
def dkwX1_book_3 : List UInt8 := [21, 7, 96, 46, 184, 0, 137, 153, 0, 33, 21, 7, 158, 0, 31, 42, 180, 0, 16, 21, 6, 21, 7, 96]
abbrev dktX1_book_3 : List UInt8 := dkwX1_book_3 ++ dktX1_book_4
def dkwX1_book_2 : List UInt8 := [16, 60, 27, 104, 29, 96, 54, 6, 3, 54, 7, 21, 7, 21, 4, 162, 0, 58, 42, 180, 0, 16, 21, 6]
abbrev dktX1_book_2 : List UInt8 := dkwX1_book_2 ++ dktX1_book_3
def dkwX1_book_1 : List UInt8 := [42, 27, 28, 29, 21, 4, 182, 0, 103, 54, 5, 21, 5, 153, 0, 10, 42, 21, 5, 182, 0, 107, 172]
abbrev dktX1_book_1 : List UInt8 := dkwX1_book_1 ++ dktX1_book_2
def dkwX1_book_0 : List UInt8 := [42, 3, 181, 0, 76, 27, 184, 0, 96, 154, 0, 5, 2, 172, 28, 184, 0, 100, 154, 0, 6, 16, 254, 172]
abbrev dktX1_book_0 : List UInt8 := dkwX1_book_0 ++ dktX1_book_1
theorem dksX1_book_0 : cX1_book.data.toList.drop 0 = dktX1_book_0 := by decide +kernel
theorem dksX1_book_1 : cX1_book.data.toList.drop 24 = dktX1_book_1 := dk_seg dksX1_book_0 24 rfl rfl
theorem dksX1_book_2 : cX1_book.data.toList.drop 47 = dktX1_book_2 := dk_seg dksX1_book_1 23 rfl rfl
theorem dksX1_book_3 : cX1_book.data.toList.drop 71 = dktX1_book_3 := dk_seg dksX1_book_2 24 rfl rfl
theorem dksX1_book_4 : cX1_book.data.toList.drop 95 = dktX1_book_4 := dk_seg dksX1_book_3 24 rfl rfl
theorem dksX1_book_5 : cX1_book.data.toList.drop 117 = dktX1_book_5 := dk_seg dksX1_book_4 22 rfl rfl
theorem dksX1_book_6 : cX1_book.data.toList.drop 141 = dktX1_book_6 := dk_seg dksX1_book_5 24 rfl rfl
theorem dksX1_book_7 : cX1_book.data.toList.drop 164 = dktX1_book_7 := dk_seg dksX1_book_6 23 rfl rfl
theorem dX1_book_0 : decode cX1_book 0 = .ok (.aload_n 0, 1) := dk_42 (dk_at dksX1_book_0 0 rfl rfl)
theorem dX1_book_1 : decode cX1_book 1 = .ok (.iconst 0, 1) := dk_3 (dk_at dksX1_book_0 1 rfl rfl)
theorem dX1_book_2 : decode cX1_book 2 = .ok (.putfield 76, 3) := dk_181 0 76 (dk_at dksX1_book_0 2 rfl rfl)
theorem dX1_book_5 : decode cX1_book 5 = .ok (.iload_n 1, 1) := dk_27 (dk_at dksX1_book_0 5 rfl rfl)
theorem dX1_book_6 : decode cX1_book 6 = .ok (.invokestatic 96, 3) := dk_184 0 96 (dk_at dksX1_book_0 6 rfl rfl)
theorem dX1_book_9 : decode cX1_book 9 = .ok (.ifCond .ne 5, 3) := dk_154 0 5 (dk_at dksX1_book_0 9 rfl rfl)
theorem dX1_book_12 : decode cX1_book 12 = .ok (.iconst (-1), 1) := dk_2 (dk_at dksX1_book_0 12 rfl rfl)
theorem dX1_book_13 : decode cX1_book 13 = .ok (.ireturn, 1) := dk_172 (dk_at dksX1_book_0 13 rfl rfl)
theorem dX1_book_14 : decode cX1_book 14 = .ok (.iload_n 2, 1) := dk_28 (dk_at dksX1_book_0 14 rfl rfl)
theorem dX1_book_15 : decode cX1_book 15 = .ok (.invokestatic 100, 3) := dk_184 0 100 (dk_at dksX1_book_0 15 rfl rfl)
theorem dX1_book_18 : decode cX1_book 18 = .ok (.ifCond .ne 6, 3) := dk_154 0 6 (dk_at dksX1_book_0 18 rfl rfl)
theorem dX1_book_21 : decode cX1_book 21 = .ok (.bipush (-2), 2) := dk_16 254 (dk_at dksX1_book_0 21 rfl rfl)
theorem dX1_book_23 : decode cX1_book 23 = .ok (.ireturn, 1) := dk_172 (dk_at dksX1_book_0 23 rfl rfl)
theorem dX1_book_24 : decode cX1_book 24 = .ok (.aload_n 0, 1) := dk_42 (dk_at dksX1_book_1 0 rfl rfl)
theorem dX1_book_25 : decode cX1_book 25 = .ok (.iload_n 1, 1) := dk_27 (dk_at dksX1_book_1 1 rfl rfl)
theorem dX1_book_26 : decode cX1_book 26 = .ok (.iload_n 2, 1) := dk_28 (dk_at dksX1_book_1 2 rfl rfl)
theorem dX1_book_27 : decode cX1_book 27 = .ok (.iload_n 3, 1) := dk_29 (dk_at dksX1_book_1 3 rfl rfl)
theorem dX1_book_28 : decode cX1_book 28 = .ok (.iload 4, 2) := dk_21 4 (dk_at dksX1_book_1 4 rfl rfl)
theorem dX1_book_30 : decode cX1_book 30 = .ok (.invokevirtual 103, 3) := dk_182 0 103 (dk_at dksX1_book_1 6 rfl rfl)
theorem dX1_book_33 : decode cX1_book 33 = .ok (.istore 5, 2) := dk_54 5 (dk_at dksX1_book_1 9 rfl rfl)
theorem dX1_book_35 : decode cX1_book 35 = .ok (.iload 5, 2) := dk_21 5 (dk_at dksX1_book_1 11 rfl rfl)
theorem dX1_book_37 : decode cX1_book 37 = .ok (.ifCond .eq 10, 3) := dk_153 0 10 (dk_at dksX1_book_1 13 rfl rfl)
theorem dX1_book_40 : decode cX1_book 40 = .ok (.aload_n 0, 1) := dk_42 (dk_at dksX1_book_1 16 rfl rfl)
theorem dX1_book_41 : decode cX1_book 41 = .ok (.iload 5, 2) := dk_21 5 (dk_at dksX1_book_1 17 rfl rfl)
theorem dX1_book_43 : decode cX1_book 43 = .ok (.invokevirtual 107, 3) := dk_182 0 107 (dk_at dksX1_book_1 19 rfl rfl)
theorem dX1_book_46 : decode cX1_book 46 = .ok (.ireturn, 1) := dk_172 (dk_at dksX1_book_1 22 rfl rfl)
theorem dX1_book_47 : decode cX1_book 47 = .ok (.bipush 60, 2) := dk_16 60 (dk_at dksX1_book_2 0 rfl rfl)
theorem dX1_book_49 : decode cX1_book 49 = .ok (.iload_n 1, 1) := dk_27 (dk_at dksX1_book_2 2 rfl rfl)
theorem dX1_book_50 : decode cX1_book 50 = .ok (.imul, 1) := dk_104 (dk_at dksX1_book_2 3 rfl rfl)
theorem dX1_book_51 : decode cX1_book 51 = .ok (.iload_n 3, 1) := dk_29 (dk_at dksX1_book_2 4 rfl rfl)
theorem dX1_book_52 : decode cX1_book 52 = .ok (.iadd, 1) := dk_96 (dk_at dksX1_book_2 5 rfl rfl)
theorem dX1_book_53 : decode cX1_book 53 = .ok (.istore 6, 2) := dk_54 6 (dk_at dksX1_book_2 6 rfl rfl)
theorem dX1_book_55 : decode cX1_book 55 = .ok (.iconst 0, 1) := dk_3 (dk_at dksX1_book_2 8 rfl rfl)
theorem dX1_book_56 : decode cX1_book 56 = .ok (.istore 7, 2) := dk_54 7 (dk_at dksX1_book_2 9 rfl rfl)
theorem dX1_book_58 : decode cX1_book 58 = .ok (.iload 7, 2) := dk_21 7 (dk_at dksX1_book_2 11 rfl rfl)
theorem dX1_book_60 : decode cX1_book 60 = .ok (.iload 4, 2) := dk_21 4 (dk_at dksX1_book_2 13 rfl rfl)
theorem dX1_book_62 : decode cX1_book 62 = .ok (.if_icmp .ge 58, 3) := dk_162 0 58 (dk_at dksX1_book_2 15 rfl rfl)
theorem dX1_book_65 : decode cX1_book 65 = .ok (.aload_n 0, 1) := dk_42 (dk_at dksX1_book_2 18 rfl rfl)
theorem dX1_book_66 : decode cX1_book 66 = .ok (.getfield 16, 3) := dk_180 0 16 (dk_at dksX1_book_2 19 rfl rfl)
theorem dX1_book_69 : decode cX1_book 69 = .ok (.iload 6, 2) := dk_21 6 (dk_at dksX1_book_2 22 rfl rfl)
theorem dX1_book_71 : decode cX1_book 71 = .ok (.iload 7, 2) := dk_21 7 (dk_at dksX1_book_3 0 rfl rfl)
theorem dX1_book_73 : decode cX1_book 73 = .ok (.iadd, 1) := dk_96 (dk_at dksX1_book_3 2 rfl rfl)
theorem dX1_book_74 : decode cX1_book 74 = .ok (.iaload, 1) := dk_46 (dk_at dksX1_book_3 3 rfl rfl)
theorem dX1_book_75 : decode cX1_book 75 = .ok (.invokestatic 137, 3) := dk_184 0 137 (dk_at dksX1_book_3 4 rfl rfl)
theorem dX1_book_78 : decode cX1_book 78 = .ok (.ifCond .eq 33, 3) := dk_153 0 33 (dk_at dksX1_book_3 7 rfl rfl)
theorem dX1_book_81 : decode cX1_book 81 = .ok (.iload 7, 2) := dk_21 7 (dk_at dksX1_book_3 10 rfl rfl)
theorem dX1_book_83 : decode cX1_book 83 = .ok (.ifCond .le 31, 3) := dk_158 0 31 (dk_at dksX1_book_3 12 rfl rfl)
theorem dX1_book_86 : decode cX1_book 86 = .ok (.aload_n 0, 1) := dk_42 (dk_at dksX1_book_3 15 rfl rfl)
theorem dX1_book_87 : decode cX1_book 87 = .ok (.getfield 16, 3) := dk_180 0 16 (dk_at dksX1_book_3 16 rfl rfl)
theorem dX1_book_90 : decode cX1_book 90 = .ok (.iload 6, 2) := dk_21 6 (dk_at dksX1_book_3 19 rfl rfl)
theorem dX1_book_92 : decode cX1_book 92 = .ok (.iload 7, 2) := dk_21 7 (dk_at dksX1_book_3 21 rfl rfl)
theorem dX1_book_94 : decode cX1_book 94 = .ok (.iadd, 1) := dk_96 (dk_at dksX1_book_3 23 rfl rfl)
theorem dX1_book_95 : decode cX1_book 95 = .ok (.iaload, 1) := dk_46 (dk_at dksX1_book_4 0 rfl rfl)
theorem dX1_book_96 : decode cX1_book 96 = .ok (.aload_n 0, 1) := dk_42 (dk_at dksX1_book_4 1 rfl rfl)
theorem dX1_book_97 : decode cX1_book 97 = .ok (.getfield 16, 3) := dk_180 0 16 (dk_at dksX1_book_4 2 rfl rfl)
theorem dX1_book_100 : decode cX1_book 100 = .ok (.iload 6, 2) := dk_21 6 (dk_at dksX1_book_4 5 rfl rfl)
theorem dX1_book_102 : decode cX1_book 102 = .ok (.iload 7, 2) := dk_21 7 (dk_at dksX1_book_4 7 rfl rfl)
theorem dX1_book_104 : decode cX1_book 104 = .ok (.iadd, 1) := dk_96 (dk_at dksX1_book_4 9 rfl rfl)
theorem dX1_book_105 : decode cX1_book 105 = .ok (.iconst 1, 1) := dk_4 (dk_at dksX1_book_4 10 rfl rfl)
theorem dX1_book_106 : decode cX1_book 106 = .ok (.isub, 1) := dk_100 (dk_at dksX1_book_4 11 rfl rfl)
theorem dX1_book_107 : decode cX1_book 107 = .ok (.iaload, 1) := dk_46 (dk_at dksX1_book_4 12 rfl rfl)
theorem dX1_book_108 : decode cX1_book 108 = .ok (.if_icmp .gt 6, 3) := dk_163 0 6 (dk_at dksX1_book_4 13 rfl rfl)
theorem dX1_book_111 : decode cX1_book 111 = .ok (.bipush (-2), 2) := dk_16 254 (dk_at dksX1_book_4 16 rfl rfl)
theorem dX1_book_113 : decode cX1_book 113 = .ok (.ireturn, 1) := dk_172 (dk_at dksX1_book_4 18 rfl rfl)
theorem dX1_book_114 : decode cX1_book 114 = .ok (.iinc 7 1, 3) := dk_132 7 1 (dk_at dksX1_book_4 19 rfl rfl)
theorem dX1_book_117 : decode cX1_book 117 = .ok (.goto (-59), 3) := dk_167 255 197 (dk_at dksX1_book_5 0 rfl rfl)
theorem dX1_book_120 : decode cX1_book 120 = .ok (.iconst 0, 1) := dk_3 (dk_at dksX1_book_5 3 rfl rfl)
theorem dX1_book_121 : decode cX1_book 121 = .ok (.istore 7, 2) := dk_54 7 (dk_at dksX1_book_5 4 rfl rfl)
theorem dX1_book_123 : decode cX1_book 123 = .ok (.iconst 2, 1) := dk_5 (dk_at dksX1_book_5 6 rfl rfl)
theorem dX1_book_124 : decode cX1_book 124 = .ok (.istore 8, 2) := dk_54 8 (dk_at dksX1_book_5 7 rfl rfl)
theorem dX1_book_126 : decode cX1_book 126 = .ok (.iload 8, 2) := dk_21 8 (dk_at dksX1_book_5 9 rfl rfl)
theorem dX1_book_128 : decode cX1_book 128 = .ok (.bipush 30, 2) := dk_16 30 (dk_at dksX1_book_5 11 rfl rfl)
theorem dX1_book_130 : decode cX1_book 130 = .ok (.if_icmp .gt 40, 3) := dk_163 0 40 (dk_at dksX1_book_5 13 rfl rfl)
theorem dX1_book_133 : decode cX1_book 133 = .ok (.iload 7, 2) := dk_21 7 (dk_at dksX1_book_5 16 rfl rfl)
theorem dX1_book_135 : decode cX1_book 135 = .ok (.aload_n 0, 1) := dk_42 (dk_at dksX1_book_5 18 rfl rfl)
theorem dX1_book_136 : decode cX1_book 136 = .ok (.getfield 16, 3) := dk_180 0 16 (dk_at dksX1_book_5 19 rfl rfl)
theorem dX1_book_139 : decode cX1_book 139 = .ok (.iload 6, 2) := dk_21 6 (dk_at dksX1_book_5 22 rfl rfl)
theorem dX1_book_141 : decode cX1_book 141 = .ok (.iload 4, 2) := dk_21 4 (dk_at dksX1_book_6 0 rfl rfl)
theorem dX1_book_143 : decode cX1_book 143 = .ok (.iload 8, 2) := dk_21 8 (dk_at dksX1_book_6 2 rfl rfl)
theorem dX1_book_145 : decode cX1_book 145 = .ok (.invokestatic 203, 3) := dk_184 0 203 (dk_at dksX1_book_6 4 rfl rfl)
theorem dX1_book_148 : decode cX1_book 148 = .ok (.ifCond .eq 12, 3) := dk_153 0 12 (dk_at dksX1_book_6 7 rfl rfl)
theorem dX1_book_151 : decode cX1_book 151 = .ok (.iconst 1, 1) := dk_4 (dk_at dksX1_book_6 10 rfl rfl)
theorem dX1_book_152 : decode cX1_book 152 = .ok (.iload 8, 2) := dk_21 8 (dk_at dksX1_book_6 11 rfl rfl)
theorem dX1_book_154 : decode cX1_book 154 = .ok (.iconst 2, 1) := dk_5 (dk_at dksX1_book_6 13 rfl rfl)
theorem dX1_book_155 : decode cX1_book 155 = .ok (.isub, 1) := dk_100 (dk_at dksX1_book_6 14 rfl rfl)
theorem dX1_book_156 : decode cX1_book 156 = .ok (.ishl, 1) := dk_120 (dk_at dksX1_book_6 15 rfl rfl)
theorem dX1_book_157 : decode cX1_book 157 = .ok (.goto 4, 3) := dk_167 0 4 (dk_at dksX1_book_6 16 rfl rfl)
theorem dX1_book_160 : decode cX1_book 160 = .ok (.iconst 0, 1) := dk_3 (dk_at dksX1_book_6 19 rfl rfl)
theorem dX1_book_161 : decode cX1_book 161 = .ok (.ior, 1) := dk_128 (dk_at dksX1_book_6 20 rfl rfl)
theorem dX1_book_162 : decode cX1_book 162 = .ok (.istore 7, 2) := dk_54 7 (dk_at dksX1_book_6 21 rfl rfl)
theorem dX1_book_164 : decode cX1_book 164 = .ok (.iinc 8 1, 3) := dk_132 8 1 (dk_at dksX1_book_7 0 rfl rfl)
theorem dX1_book_167 : decode cX1_book 167 = .ok (.goto (-41), 3) := dk_167 255 215 (dk_at dksX1_book_7 3 rfl rfl)
theorem dX1_book_170 : decode cX1_book 170 = .ok (.iload 7, 2) := dk_21 7 (dk_at dksX1_book_7 6 rfl rfl)
theorem dX1_book_172 : decode cX1_book 172 = .ok (.ireturn, 1) := dk_172 (dk_at dksX1_book_7 8 rfl rfl)
abbrev cX1_isMonthOf : ByteArray := prog_16_method_52_code
def yX1_isMonthOf : MethodName := ⟨RX1, "isMonthOf", "([IIII)Z"⟩
def dkwX1_isMonthOf_1 : List UInt8 := [3, 172, 132, 4, 1, 167, 255, 230, 4, 172]
abbrev dktX1_isMonthOf_1 : List UInt8 := dkwX1_isMonthOf_1 ++ []
def dkwX1_isMonthOf_0 : List UInt8 := [4, 54, 4, 21, 4, 28, 162, 0, 26, 42, 27, 21, 4, 96, 46, 42, 27, 46, 100, 29, 112, 153, 0, 5]
abbrev dktX1_isMonthOf_0 : List UInt8 := dkwX1_isMonthOf_0 ++ dktX1_isMonthOf_1
theorem dksX1_isMonthOf_0 : cX1_isMonthOf.data.toList.drop 0 = dktX1_isMonthOf_0 := by decide +kernel
theorem dksX1_isMonthOf_1 : cX1_isMonthOf.data.toList.drop 24 = dktX1_isMonthOf_1 := dk_seg dksX1_isMonthOf_0 24 rfl rfl
theorem dX1_isMonthOf_0 : decode cX1_isMonthOf 0 = .ok (.iconst 1, 1) := dk_4 (dk_at dksX1_isMonthOf_0 0 rfl rfl)
theorem dX1_isMonthOf_1 : decode cX1_isMonthOf 1 = .ok (.istore 4, 2) := dk_54 4 (dk_at dksX1_isMonthOf_0 1 rfl rfl)
theorem dX1_isMonthOf_3 : decode cX1_isMonthOf 3 = .ok (.iload 4, 2) := dk_21 4 (dk_at dksX1_isMonthOf_0 3 rfl rfl)
theorem dX1_isMonthOf_5 : decode cX1_isMonthOf 5 = .ok (.iload_n 2, 1) := dk_28 (dk_at dksX1_isMonthOf_0 5 rfl rfl)
theorem dX1_isMonthOf_6 : decode cX1_isMonthOf 6 = .ok (.if_icmp .ge 26, 3) := dk_162 0 26 (dk_at dksX1_isMonthOf_0 6 rfl rfl)
theorem dX1_isMonthOf_9 : decode cX1_isMonthOf 9 = .ok (.aload_n 0, 1) := dk_42 (dk_at dksX1_isMonthOf_0 9 rfl rfl)
theorem dX1_isMonthOf_10 : decode cX1_isMonthOf 10 = .ok (.iload_n 1, 1) := dk_27 (dk_at dksX1_isMonthOf_0 10 rfl rfl)
theorem dX1_isMonthOf_11 : decode cX1_isMonthOf 11 = .ok (.iload 4, 2) := dk_21 4 (dk_at dksX1_isMonthOf_0 11 rfl rfl)
theorem dX1_isMonthOf_13 : decode cX1_isMonthOf 13 = .ok (.iadd, 1) := dk_96 (dk_at dksX1_isMonthOf_0 13 rfl rfl)
theorem dX1_isMonthOf_14 : decode cX1_isMonthOf 14 = .ok (.iaload, 1) := dk_46 (dk_at dksX1_isMonthOf_0 14 rfl rfl)
theorem dX1_isMonthOf_15 : decode cX1_isMonthOf 15 = .ok (.aload_n 0, 1) := dk_42 (dk_at dksX1_isMonthOf_0 15 rfl rfl)
theorem dX1_isMonthOf_16 : decode cX1_isMonthOf 16 = .ok (.iload_n 1, 1) := dk_27 (dk_at dksX1_isMonthOf_0 16 rfl rfl)
theorem dX1_isMonthOf_17 : decode cX1_isMonthOf 17 = .ok (.iaload, 1) := dk_46 (dk_at dksX1_isMonthOf_0 17 rfl rfl)
theorem dX1_isMonthOf_18 : decode cX1_isMonthOf 18 = .ok (.isub, 1) := dk_100 (dk_at dksX1_isMonthOf_0 18 rfl rfl)
theorem dX1_isMonthOf_19 : decode cX1_isMonthOf 19 = .ok (.iload_n 3, 1) := dk_29 (dk_at dksX1_isMonthOf_0 19 rfl rfl)
theorem dX1_isMonthOf_20 : decode cX1_isMonthOf 20 = .ok (.irem, 1) := dk_112 (dk_at dksX1_isMonthOf_0 20 rfl rfl)
theorem dX1_isMonthOf_21 : decode cX1_isMonthOf 21 = .ok (.ifCond .eq 5, 3) := dk_153 0 5 (dk_at dksX1_isMonthOf_0 21 rfl rfl)
theorem dX1_isMonthOf_24 : decode cX1_isMonthOf 24 = .ok (.iconst 0, 1) := dk_3 (dk_at dksX1_isMonthOf_1 0 rfl rfl)
theorem dX1_isMonthOf_25 : decode cX1_isMonthOf 25 = .ok (.ireturn, 1) := dk_172 (dk_at dksX1_isMonthOf_1 1 rfl rfl)
theorem dX1_isMonthOf_26 : decode cX1_isMonthOf 26 = .ok (.iinc 4 1, 3) := dk_132 4 1 (dk_at dksX1_isMonthOf_1 2 rfl rfl)
theorem dX1_isMonthOf_29 : decode cX1_isMonthOf 29 = .ok (.goto (-26), 3) := dk_167 255 230 (dk_at dksX1_isMonthOf_1 5 rfl rfl)
theorem dX1_isMonthOf_32 : decode cX1_isMonthOf 32 = .ok (.iconst 1, 1) := dk_4 (dk_at dksX1_isMonthOf_1 8 rfl rfl)
theorem dX1_isMonthOf_33 : decode cX1_isMonthOf 33 = .ok (.ireturn, 1) := dk_172 (dk_at dksX1_isMonthOf_1 9 rfl rfl)
abbrev cX1_sheet : ByteArray := prog_16_method_54_code
def yX1_sheet : MethodName := ⟨RX1, "sheet", "(III)I"⟩
def dkwX1_sheet_3 : List UInt8 := [21, 4, 96, 3, 79, 132, 4, 1, 167, 255, 233, 4, 172]
abbrev dktX1_sheet_3 : List UInt8 := dkwX1_sheet_3 ++ []
def dkwX1_sheet_2 : List UInt8 := [180, 0, 13, 27, 29, 79, 3, 54, 4, 21, 4, 16, 60, 162, 0, 22, 42, 180, 0, 16, 16, 60, 27, 104]
abbrev dktX1_sheet_2 : List UInt8 := dkwX1_sheet_2 ++ dktX1_sheet_3
def dkwX1_sheet_1 : List UInt8 := [164, 0, 6, 16, 254, 172, 29, 156, 0, 9, 42, 7, 182, 0, 107, 172, 42, 180, 0, 9, 27, 28, 79, 42]
abbrev dktX1_sheet_1 : List UInt8 := dkwX1_sheet_1 ++ dktX1_sheet_2
def dkwX1_sheet_0 : List UInt8 := [42, 3, 181, 0, 76, 27, 184, 0, 96, 154, 0, 5, 2, 172, 28, 184, 0, 100, 153, 0, 9, 29, 16, 60]
abbrev dktX1_sheet_0 : List UInt8 := dkwX1_sheet_0 ++ dktX1_sheet_1
theorem dksX1_sheet_0 : cX1_sheet.data.toList.drop 0 = dktX1_sheet_0 := by decide +kernel
theorem dksX1_sheet_1 : cX1_sheet.data.toList.drop 24 = dktX1_sheet_1 := dk_seg dksX1_sheet_0 24 rfl rfl
theorem dksX1_sheet_2 : cX1_sheet.data.toList.drop 48 = dktX1_sheet_2 := dk_seg dksX1_sheet_1 24 rfl rfl
theorem dksX1_sheet_3 : cX1_sheet.data.toList.drop 72 = dktX1_sheet_3 := dk_seg dksX1_sheet_2 24 rfl rfl
theorem dX1_sheet_0 : decode cX1_sheet 0 = .ok (.aload_n 0, 1) := dk_42 (dk_at dksX1_sheet_0 0 rfl rfl)
theorem dX1_sheet_1 : decode cX1_sheet 1 = .ok (.iconst 0, 1) := dk_3 (dk_at dksX1_sheet_0 1 rfl rfl)
theorem dX1_sheet_2 : decode cX1_sheet 2 = .ok (.putfield 76, 3) := dk_181 0 76 (dk_at dksX1_sheet_0 2 rfl rfl)
theorem dX1_sheet_5 : decode cX1_sheet 5 = .ok (.iload_n 1, 1) := dk_27 (dk_at dksX1_sheet_0 5 rfl rfl)
theorem dX1_sheet_6 : decode cX1_sheet 6 = .ok (.invokestatic 96, 3) := dk_184 0 96 (dk_at dksX1_sheet_0 6 rfl rfl)
theorem dX1_sheet_9 : decode cX1_sheet 9 = .ok (.ifCond .ne 5, 3) := dk_154 0 5 (dk_at dksX1_sheet_0 9 rfl rfl)
theorem dX1_sheet_12 : decode cX1_sheet 12 = .ok (.iconst (-1), 1) := dk_2 (dk_at dksX1_sheet_0 12 rfl rfl)
theorem dX1_sheet_13 : decode cX1_sheet 13 = .ok (.ireturn, 1) := dk_172 (dk_at dksX1_sheet_0 13 rfl rfl)
theorem dX1_sheet_14 : decode cX1_sheet 14 = .ok (.iload_n 2, 1) := dk_28 (dk_at dksX1_sheet_0 14 rfl rfl)
theorem dX1_sheet_15 : decode cX1_sheet 15 = .ok (.invokestatic 100, 3) := dk_184 0 100 (dk_at dksX1_sheet_0 15 rfl rfl)
theorem dX1_sheet_18 : decode cX1_sheet 18 = .ok (.ifCond .eq 9, 3) := dk_153 0 9 (dk_at dksX1_sheet_0 18 rfl rfl)
theorem dX1_sheet_21 : decode cX1_sheet 21 = .ok (.iload_n 3, 1) := dk_29 (dk_at dksX1_sheet_0 21 rfl rfl)
theorem dX1_sheet_22 : decode cX1_sheet 22 = .ok (.bipush 60, 2) := dk_16 60 (dk_at dksX1_sheet_0 22 rfl rfl)
theorem dX1_sheet_24 : decode cX1_sheet 24 = .ok (.if_icmp .le 6, 3) := dk_164 0 6 (dk_at dksX1_sheet_1 0 rfl rfl)
theorem dX1_sheet_27 : decode cX1_sheet 27 = .ok (.bipush (-2), 2) := dk_16 254 (dk_at dksX1_sheet_1 3 rfl rfl)
theorem dX1_sheet_29 : decode cX1_sheet 29 = .ok (.ireturn, 1) := dk_172 (dk_at dksX1_sheet_1 5 rfl rfl)
theorem dX1_sheet_30 : decode cX1_sheet 30 = .ok (.iload_n 3, 1) := dk_29 (dk_at dksX1_sheet_1 6 rfl rfl)
theorem dX1_sheet_31 : decode cX1_sheet 31 = .ok (.ifCond .ge 9, 3) := dk_156 0 9 (dk_at dksX1_sheet_1 7 rfl rfl)
theorem dX1_sheet_34 : decode cX1_sheet 34 = .ok (.aload_n 0, 1) := dk_42 (dk_at dksX1_sheet_1 10 rfl rfl)
theorem dX1_sheet_35 : decode cX1_sheet 35 = .ok (.iconst 4, 1) := dk_7 (dk_at dksX1_sheet_1 11 rfl rfl)
theorem dX1_sheet_36 : decode cX1_sheet 36 = .ok (.invokevirtual 107, 3) := dk_182 0 107 (dk_at dksX1_sheet_1 12 rfl rfl)
theorem dX1_sheet_39 : decode cX1_sheet 39 = .ok (.ireturn, 1) := dk_172 (dk_at dksX1_sheet_1 15 rfl rfl)
theorem dX1_sheet_40 : decode cX1_sheet 40 = .ok (.aload_n 0, 1) := dk_42 (dk_at dksX1_sheet_1 16 rfl rfl)
theorem dX1_sheet_41 : decode cX1_sheet 41 = .ok (.getfield 9, 3) := dk_180 0 9 (dk_at dksX1_sheet_1 17 rfl rfl)
theorem dX1_sheet_44 : decode cX1_sheet 44 = .ok (.iload_n 1, 1) := dk_27 (dk_at dksX1_sheet_1 20 rfl rfl)
theorem dX1_sheet_45 : decode cX1_sheet 45 = .ok (.iload_n 2, 1) := dk_28 (dk_at dksX1_sheet_1 21 rfl rfl)
theorem dX1_sheet_46 : decode cX1_sheet 46 = .ok (.iastore, 1) := dk_79 (dk_at dksX1_sheet_1 22 rfl rfl)
theorem dX1_sheet_47 : decode cX1_sheet 47 = .ok (.aload_n 0, 1) := dk_42 (dk_at dksX1_sheet_1 23 rfl rfl)
theorem dX1_sheet_48 : decode cX1_sheet 48 = .ok (.getfield 13, 3) := dk_180 0 13 (dk_at dksX1_sheet_2 0 rfl rfl)
theorem dX1_sheet_51 : decode cX1_sheet 51 = .ok (.iload_n 1, 1) := dk_27 (dk_at dksX1_sheet_2 3 rfl rfl)
theorem dX1_sheet_52 : decode cX1_sheet 52 = .ok (.iload_n 3, 1) := dk_29 (dk_at dksX1_sheet_2 4 rfl rfl)
theorem dX1_sheet_53 : decode cX1_sheet 53 = .ok (.iastore, 1) := dk_79 (dk_at dksX1_sheet_2 5 rfl rfl)
theorem dX1_sheet_54 : decode cX1_sheet 54 = .ok (.iconst 0, 1) := dk_3 (dk_at dksX1_sheet_2 6 rfl rfl)
theorem dX1_sheet_55 : decode cX1_sheet 55 = .ok (.istore 4, 2) := dk_54 4 (dk_at dksX1_sheet_2 7 rfl rfl)
theorem dX1_sheet_57 : decode cX1_sheet 57 = .ok (.iload 4, 2) := dk_21 4 (dk_at dksX1_sheet_2 9 rfl rfl)
theorem dX1_sheet_59 : decode cX1_sheet 59 = .ok (.bipush 60, 2) := dk_16 60 (dk_at dksX1_sheet_2 11 rfl rfl)
theorem dX1_sheet_61 : decode cX1_sheet 61 = .ok (.if_icmp .ge 22, 3) := dk_162 0 22 (dk_at dksX1_sheet_2 13 rfl rfl)
theorem dX1_sheet_64 : decode cX1_sheet 64 = .ok (.aload_n 0, 1) := dk_42 (dk_at dksX1_sheet_2 16 rfl rfl)
theorem dX1_sheet_65 : decode cX1_sheet 65 = .ok (.getfield 16, 3) := dk_180 0 16 (dk_at dksX1_sheet_2 17 rfl rfl)
theorem dX1_sheet_68 : decode cX1_sheet 68 = .ok (.bipush 60, 2) := dk_16 60 (dk_at dksX1_sheet_2 20 rfl rfl)
theorem dX1_sheet_70 : decode cX1_sheet 70 = .ok (.iload_n 1, 1) := dk_27 (dk_at dksX1_sheet_2 22 rfl rfl)
theorem dX1_sheet_71 : decode cX1_sheet 71 = .ok (.imul, 1) := dk_104 (dk_at dksX1_sheet_2 23 rfl rfl)
theorem dX1_sheet_72 : decode cX1_sheet 72 = .ok (.iload 4, 2) := dk_21 4 (dk_at dksX1_sheet_3 0 rfl rfl)
theorem dX1_sheet_74 : decode cX1_sheet 74 = .ok (.iadd, 1) := dk_96 (dk_at dksX1_sheet_3 2 rfl rfl)
theorem dX1_sheet_75 : decode cX1_sheet 75 = .ok (.iconst 0, 1) := dk_3 (dk_at dksX1_sheet_3 3 rfl rfl)
theorem dX1_sheet_76 : decode cX1_sheet 76 = .ok (.iastore, 1) := dk_79 (dk_at dksX1_sheet_3 4 rfl rfl)
theorem dX1_sheet_77 : decode cX1_sheet 77 = .ok (.iinc 4 1, 3) := dk_132 4 1 (dk_at dksX1_sheet_3 5 rfl rfl)
theorem dX1_sheet_80 : decode cX1_sheet 80 = .ok (.goto (-23), 3) := dk_167 255 233 (dk_at dksX1_sheet_3 8 rfl rfl)
theorem dX1_sheet_83 : decode cX1_sheet 83 = .ok (.iconst 1, 1) := dk_4 (dk_at dksX1_sheet_3 11 rfl rfl)
theorem dX1_sheet_84 : decode cX1_sheet 84 = .ok (.ireturn, 1) := dk_172 (dk_at dksX1_sheet_3 12 rfl rfl)
abbrev cX1_lose : ByteArray := prog_16_method_55_code
def yX1_lose : MethodName := ⟨RX1, "lose", "(I)I"⟩
def dkwX1_lose_1 : List UInt8 := [4, 61, 42, 180, 0, 9, 27, 16, 247, 79, 28, 172]
abbrev dktX1_lose_1 : List UInt8 := dkwX1_lose_1 ++ []
def dkwX1_lose_0 : List UInt8 := [27, 184, 0, 96, 154, 0, 5, 2, 172, 42, 180, 0, 9, 27, 46, 16, 247, 160, 0, 7, 3, 167, 0, 4]
abbrev dktX1_lose_0 : List UInt8 := dkwX1_lose_0 ++ dktX1_lose_1
theorem dksX1_lose_0 : cX1_lose.data.toList.drop 0 = dktX1_lose_0 := by decide +kernel
theorem dksX1_lose_1 : cX1_lose.data.toList.drop 24 = dktX1_lose_1 := dk_seg dksX1_lose_0 24 rfl rfl
theorem dX1_lose_0 : decode cX1_lose 0 = .ok (.iload_n 1, 1) := dk_27 (dk_at dksX1_lose_0 0 rfl rfl)
theorem dX1_lose_1 : decode cX1_lose 1 = .ok (.invokestatic 96, 3) := dk_184 0 96 (dk_at dksX1_lose_0 1 rfl rfl)
theorem dX1_lose_4 : decode cX1_lose 4 = .ok (.ifCond .ne 5, 3) := dk_154 0 5 (dk_at dksX1_lose_0 4 rfl rfl)
theorem dX1_lose_7 : decode cX1_lose 7 = .ok (.iconst (-1), 1) := dk_2 (dk_at dksX1_lose_0 7 rfl rfl)
theorem dX1_lose_8 : decode cX1_lose 8 = .ok (.ireturn, 1) := dk_172 (dk_at dksX1_lose_0 8 rfl rfl)
theorem dX1_lose_9 : decode cX1_lose 9 = .ok (.aload_n 0, 1) := dk_42 (dk_at dksX1_lose_0 9 rfl rfl)
theorem dX1_lose_10 : decode cX1_lose 10 = .ok (.getfield 9, 3) := dk_180 0 9 (dk_at dksX1_lose_0 10 rfl rfl)
theorem dX1_lose_13 : decode cX1_lose 13 = .ok (.iload_n 1, 1) := dk_27 (dk_at dksX1_lose_0 13 rfl rfl)
theorem dX1_lose_14 : decode cX1_lose 14 = .ok (.iaload, 1) := dk_46 (dk_at dksX1_lose_0 14 rfl rfl)
theorem dX1_lose_15 : decode cX1_lose 15 = .ok (.bipush (-9), 2) := dk_16 247 (dk_at dksX1_lose_0 15 rfl rfl)
theorem dX1_lose_17 : decode cX1_lose 17 = .ok (.if_icmp .ne 7, 3) := dk_160 0 7 (dk_at dksX1_lose_0 17 rfl rfl)
theorem dX1_lose_20 : decode cX1_lose 20 = .ok (.iconst 0, 1) := dk_3 (dk_at dksX1_lose_0 20 rfl rfl)
theorem dX1_lose_21 : decode cX1_lose 21 = .ok (.goto 4, 3) := dk_167 0 4 (dk_at dksX1_lose_0 21 rfl rfl)
theorem dX1_lose_24 : decode cX1_lose 24 = .ok (.iconst 1, 1) := dk_4 (dk_at dksX1_lose_1 0 rfl rfl)
theorem dX1_lose_25 : decode cX1_lose 25 = .ok (.istore_n 2, 1) := dk_61 (dk_at dksX1_lose_1 1 rfl rfl)
theorem dX1_lose_26 : decode cX1_lose 26 = .ok (.aload_n 0, 1) := dk_42 (dk_at dksX1_lose_1 2 rfl rfl)
theorem dX1_lose_27 : decode cX1_lose 27 = .ok (.getfield 9, 3) := dk_180 0 9 (dk_at dksX1_lose_1 3 rfl rfl)
theorem dX1_lose_30 : decode cX1_lose 30 = .ok (.iload_n 1, 1) := dk_27 (dk_at dksX1_lose_1 6 rfl rfl)
theorem dX1_lose_31 : decode cX1_lose 31 = .ok (.bipush (-9), 2) := dk_16 247 (dk_at dksX1_lose_1 7 rfl rfl)
theorem dX1_lose_33 : decode cX1_lose 33 = .ok (.iastore, 1) := dk_79 (dk_at dksX1_lose_1 9 rfl rfl)
theorem dX1_lose_34 : decode cX1_lose 34 = .ok (.iload_n 2, 1) := dk_28 (dk_at dksX1_lose_1 10 rfl rfl)
theorem dX1_lose_35 : decode cX1_lose 35 = .ok (.ireturn, 1) := dk_172 (dk_at dksX1_lose_1 11 rfl rfl)
abbrev cX1_put : ByteArray := prog_16_method_56_code
def yX1_put : MethodName := ⟨RX1, "put", "(III)I"⟩
def dkwX1_put_4 : List UInt8 := [29, 79, 4, 172]
abbrev dktX1_put_4 : List UInt8 := dkwX1_put_4 ++ []
def dkwX1_put_3 : List UInt8 := [46, 154, 0, 8, 29, 145, 167, 0, 19, 42, 180, 0, 9, 27, 46, 4, 160, 0, 8, 29, 147, 167, 0, 4]
abbrev dktX1_put_3 : List UInt8 := dkwX1_put_3 ++ dktX1_put_4
def dkwX1_put_2 : List UInt8 := [154, 0, 9, 42, 6, 182, 0, 107, 172, 42, 180, 0, 16, 16, 60, 27, 104, 28, 96, 42, 180, 0, 9, 27]
abbrev dktX1_put_2 : List UInt8 := dkwX1_put_2 ++ dktX1_put_3
def dkwX1_put_1 : List UInt8 := [160, 0, 9, 42, 4, 182, 0, 107, 172, 28, 3, 42, 180, 0, 13, 27, 46, 4, 100, 184, 0, 82]
abbrev dktX1_put_1 : List UInt8 := dkwX1_put_1 ++ dktX1_put_2
def dkwX1_put_0 : List UInt8 := [42, 3, 181, 0, 76, 27, 184, 0, 96, 154, 0, 5, 2, 172, 42, 180, 0, 9, 27, 46, 16, 247]
abbrev dktX1_put_0 : List UInt8 := dkwX1_put_0 ++ dktX1_put_1
theorem dksX1_put_0 : cX1_put.data.toList.drop 0 = dktX1_put_0 := by decide +kernel
theorem dksX1_put_1 : cX1_put.data.toList.drop 22 = dktX1_put_1 := dk_seg dksX1_put_0 22 rfl rfl
theorem dksX1_put_2 : cX1_put.data.toList.drop 44 = dktX1_put_2 := dk_seg dksX1_put_1 22 rfl rfl
theorem dksX1_put_3 : cX1_put.data.toList.drop 68 = dktX1_put_3 := dk_seg dksX1_put_2 24 rfl rfl
theorem dksX1_put_4 : cX1_put.data.toList.drop 92 = dktX1_put_4 := dk_seg dksX1_put_3 24 rfl rfl
theorem dX1_put_0 : decode cX1_put 0 = .ok (.aload_n 0, 1) := dk_42 (dk_at dksX1_put_0 0 rfl rfl)
theorem dX1_put_1 : decode cX1_put 1 = .ok (.iconst 0, 1) := dk_3 (dk_at dksX1_put_0 1 rfl rfl)
theorem dX1_put_2 : decode cX1_put 2 = .ok (.putfield 76, 3) := dk_181 0 76 (dk_at dksX1_put_0 2 rfl rfl)
theorem dX1_put_5 : decode cX1_put 5 = .ok (.iload_n 1, 1) := dk_27 (dk_at dksX1_put_0 5 rfl rfl)
theorem dX1_put_6 : decode cX1_put 6 = .ok (.invokestatic 96, 3) := dk_184 0 96 (dk_at dksX1_put_0 6 rfl rfl)
theorem dX1_put_9 : decode cX1_put 9 = .ok (.ifCond .ne 5, 3) := dk_154 0 5 (dk_at dksX1_put_0 9 rfl rfl)
theorem dX1_put_12 : decode cX1_put 12 = .ok (.iconst (-1), 1) := dk_2 (dk_at dksX1_put_0 12 rfl rfl)
theorem dX1_put_13 : decode cX1_put 13 = .ok (.ireturn, 1) := dk_172 (dk_at dksX1_put_0 13 rfl rfl)
theorem dX1_put_14 : decode cX1_put 14 = .ok (.aload_n 0, 1) := dk_42 (dk_at dksX1_put_0 14 rfl rfl)
theorem dX1_put_15 : decode cX1_put 15 = .ok (.getfield 9, 3) := dk_180 0 9 (dk_at dksX1_put_0 15 rfl rfl)
theorem dX1_put_18 : decode cX1_put 18 = .ok (.iload_n 1, 1) := dk_27 (dk_at dksX1_put_0 18 rfl rfl)
theorem dX1_put_19 : decode cX1_put 19 = .ok (.iaload, 1) := dk_46 (dk_at dksX1_put_0 19 rfl rfl)
theorem dX1_put_20 : decode cX1_put 20 = .ok (.bipush (-9), 2) := dk_16 247 (dk_at dksX1_put_0 20 rfl rfl)
theorem dX1_put_22 : decode cX1_put 22 = .ok (.if_icmp .ne 9, 3) := dk_160 0 9 (dk_at dksX1_put_1 0 rfl rfl)
theorem dX1_put_25 : decode cX1_put 25 = .ok (.aload_n 0, 1) := dk_42 (dk_at dksX1_put_1 3 rfl rfl)
theorem dX1_put_26 : decode cX1_put 26 = .ok (.iconst 1, 1) := dk_4 (dk_at dksX1_put_1 4 rfl rfl)
theorem dX1_put_27 : decode cX1_put 27 = .ok (.invokevirtual 107, 3) := dk_182 0 107 (dk_at dksX1_put_1 5 rfl rfl)
theorem dX1_put_30 : decode cX1_put 30 = .ok (.ireturn, 1) := dk_172 (dk_at dksX1_put_1 8 rfl rfl)
theorem dX1_put_31 : decode cX1_put 31 = .ok (.iload_n 2, 1) := dk_28 (dk_at dksX1_put_1 9 rfl rfl)
theorem dX1_put_32 : decode cX1_put 32 = .ok (.iconst 0, 1) := dk_3 (dk_at dksX1_put_1 10 rfl rfl)
theorem dX1_put_33 : decode cX1_put 33 = .ok (.aload_n 0, 1) := dk_42 (dk_at dksX1_put_1 11 rfl rfl)
theorem dX1_put_34 : decode cX1_put 34 = .ok (.getfield 13, 3) := dk_180 0 13 (dk_at dksX1_put_1 12 rfl rfl)
theorem dX1_put_37 : decode cX1_put 37 = .ok (.iload_n 1, 1) := dk_27 (dk_at dksX1_put_1 15 rfl rfl)
theorem dX1_put_38 : decode cX1_put 38 = .ok (.iaload, 1) := dk_46 (dk_at dksX1_put_1 16 rfl rfl)
theorem dX1_put_39 : decode cX1_put 39 = .ok (.iconst 1, 1) := dk_4 (dk_at dksX1_put_1 17 rfl rfl)
theorem dX1_put_40 : decode cX1_put 40 = .ok (.isub, 1) := dk_100 (dk_at dksX1_put_1 18 rfl rfl)
theorem dX1_put_41 : decode cX1_put 41 = .ok (.invokestatic 82, 3) := dk_184 0 82 (dk_at dksX1_put_1 19 rfl rfl)
theorem dX1_put_44 : decode cX1_put 44 = .ok (.ifCond .ne 9, 3) := dk_154 0 9 (dk_at dksX1_put_2 0 rfl rfl)
theorem dX1_put_47 : decode cX1_put 47 = .ok (.aload_n 0, 1) := dk_42 (dk_at dksX1_put_2 3 rfl rfl)
theorem dX1_put_48 : decode cX1_put 48 = .ok (.iconst 3, 1) := dk_6 (dk_at dksX1_put_2 4 rfl rfl)
theorem dX1_put_49 : decode cX1_put 49 = .ok (.invokevirtual 107, 3) := dk_182 0 107 (dk_at dksX1_put_2 5 rfl rfl)
theorem dX1_put_52 : decode cX1_put 52 = .ok (.ireturn, 1) := dk_172 (dk_at dksX1_put_2 8 rfl rfl)
theorem dX1_put_53 : decode cX1_put 53 = .ok (.aload_n 0, 1) := dk_42 (dk_at dksX1_put_2 9 rfl rfl)
theorem dX1_put_54 : decode cX1_put 54 = .ok (.getfield 16, 3) := dk_180 0 16 (dk_at dksX1_put_2 10 rfl rfl)
theorem dX1_put_57 : decode cX1_put 57 = .ok (.bipush 60, 2) := dk_16 60 (dk_at dksX1_put_2 13 rfl rfl)
theorem dX1_put_59 : decode cX1_put 59 = .ok (.iload_n 1, 1) := dk_27 (dk_at dksX1_put_2 15 rfl rfl)
theorem dX1_put_60 : decode cX1_put 60 = .ok (.imul, 1) := dk_104 (dk_at dksX1_put_2 16 rfl rfl)
theorem dX1_put_61 : decode cX1_put 61 = .ok (.iload_n 2, 1) := dk_28 (dk_at dksX1_put_2 17 rfl rfl)
theorem dX1_put_62 : decode cX1_put 62 = .ok (.iadd, 1) := dk_96 (dk_at dksX1_put_2 18 rfl rfl)
theorem dX1_put_63 : decode cX1_put 63 = .ok (.aload_n 0, 1) := dk_42 (dk_at dksX1_put_2 19 rfl rfl)
theorem dX1_put_64 : decode cX1_put 64 = .ok (.getfield 9, 3) := dk_180 0 9 (dk_at dksX1_put_2 20 rfl rfl)
theorem dX1_put_67 : decode cX1_put 67 = .ok (.iload_n 1, 1) := dk_27 (dk_at dksX1_put_2 23 rfl rfl)
theorem dX1_put_68 : decode cX1_put 68 = .ok (.iaload, 1) := dk_46 (dk_at dksX1_put_3 0 rfl rfl)
theorem dX1_put_69 : decode cX1_put 69 = .ok (.ifCond .ne 8, 3) := dk_154 0 8 (dk_at dksX1_put_3 1 rfl rfl)
theorem dX1_put_72 : decode cX1_put 72 = .ok (.iload_n 3, 1) := dk_29 (dk_at dksX1_put_3 4 rfl rfl)
theorem dX1_put_73 : decode cX1_put 73 = .ok (.i2b, 1) := dk_145 (dk_at dksX1_put_3 5 rfl rfl)
theorem dX1_put_74 : decode cX1_put 74 = .ok (.goto 19, 3) := dk_167 0 19 (dk_at dksX1_put_3 6 rfl rfl)
theorem dX1_put_77 : decode cX1_put 77 = .ok (.aload_n 0, 1) := dk_42 (dk_at dksX1_put_3 9 rfl rfl)
theorem dX1_put_78 : decode cX1_put 78 = .ok (.getfield 9, 3) := dk_180 0 9 (dk_at dksX1_put_3 10 rfl rfl)
theorem dX1_put_81 : decode cX1_put 81 = .ok (.iload_n 1, 1) := dk_27 (dk_at dksX1_put_3 13 rfl rfl)
theorem dX1_put_82 : decode cX1_put 82 = .ok (.iaload, 1) := dk_46 (dk_at dksX1_put_3 14 rfl rfl)
theorem dX1_put_83 : decode cX1_put 83 = .ok (.iconst 1, 1) := dk_4 (dk_at dksX1_put_3 15 rfl rfl)
theorem dX1_put_84 : decode cX1_put 84 = .ok (.if_icmp .ne 8, 3) := dk_160 0 8 (dk_at dksX1_put_3 16 rfl rfl)
theorem dX1_put_87 : decode cX1_put 87 = .ok (.iload_n 3, 1) := dk_29 (dk_at dksX1_put_3 19 rfl rfl)
theorem dX1_put_88 : decode cX1_put 88 = .ok (.i2s, 1) := dk_147 (dk_at dksX1_put_3 20 rfl rfl)
theorem dX1_put_89 : decode cX1_put 89 = .ok (.goto 4, 3) := dk_167 0 4 (dk_at dksX1_put_3 21 rfl rfl)
theorem dX1_put_92 : decode cX1_put 92 = .ok (.iload_n 3, 1) := dk_29 (dk_at dksX1_put_4 0 rfl rfl)
theorem dX1_put_93 : decode cX1_put 93 = .ok (.iastore, 1) := dk_79 (dk_at dksX1_put_4 1 rfl rfl)
theorem dX1_put_94 : decode cX1_put 94 = .ok (.iconst 1, 1) := dk_4 (dk_at dksX1_put_4 2 rfl rfl)
theorem dX1_put_95 : decode cX1_put 95 = .ok (.ireturn, 1) := dk_172 (dk_at dksX1_put_4 3 rfl rfl)
abbrev cX1_cell : ByteArray := prog_16_method_57_code
def yX1_cell : MethodName := ⟨RX1, "cell", "(III)J"⟩
def dkwX1_cell_4 : List UInt8 := [16, 60, 27, 104, 28, 96, 46, 133, 173]
abbrev dktX1_cell_4 : List UInt8 := dkwX1_cell_4 ++ []
def dkwX1_cell_3 : List UInt8 := [180, 0, 13, 27, 46, 4, 100, 184, 0, 82, 154, 0, 9, 42, 6, 182, 0, 207, 173, 42, 180, 0, 16]
abbrev dktX1_cell_3 : List UInt8 := dkwX1_cell_3 ++ dktX1_cell_4
def dkwX1_cell_2 : List UInt8 := [182, 0, 207, 173, 42, 180, 0, 9, 27, 46, 16, 247, 160, 0, 9, 42, 4, 182, 0, 207, 173, 28, 3, 42]
abbrev dktX1_cell_2 : List UInt8 := dkwX1_cell_2 ++ dktX1_cell_3
def dkwX1_cell_1 : List UInt8 := [180, 0, 9, 27, 46, 16, 247, 159, 0, 19, 42, 180, 0, 9, 27, 46, 29, 159, 0, 9, 42, 5]
abbrev dktX1_cell_1 : List UInt8 := dkwX1_cell_1 ++ dktX1_cell_2
def dkwX1_cell_0 : List UInt8 := [42, 3, 181, 0, 76, 27, 184, 0, 96, 153, 0, 10, 29, 184, 0, 100, 154, 0, 7, 20, 0, 80, 173, 42]
abbrev dktX1_cell_0 : List UInt8 := dkwX1_cell_0 ++ dktX1_cell_1
theorem dksX1_cell_0 : cX1_cell.data.toList.drop 0 = dktX1_cell_0 := by decide +kernel
theorem dksX1_cell_1 : cX1_cell.data.toList.drop 24 = dktX1_cell_1 := dk_seg dksX1_cell_0 24 rfl rfl
theorem dksX1_cell_2 : cX1_cell.data.toList.drop 46 = dktX1_cell_2 := dk_seg dksX1_cell_1 22 rfl rfl
theorem dksX1_cell_3 : cX1_cell.data.toList.drop 70 = dktX1_cell_3 := dk_seg dksX1_cell_2 24 rfl rfl
theorem dksX1_cell_4 : cX1_cell.data.toList.drop 93 = dktX1_cell_4 := dk_seg dksX1_cell_3 23 rfl rfl
theorem dX1_cell_0 : decode cX1_cell 0 = .ok (.aload_n 0, 1) := dk_42 (dk_at dksX1_cell_0 0 rfl rfl)
theorem dX1_cell_1 : decode cX1_cell 1 = .ok (.iconst 0, 1) := dk_3 (dk_at dksX1_cell_0 1 rfl rfl)
theorem dX1_cell_2 : decode cX1_cell 2 = .ok (.putfield 76, 3) := dk_181 0 76 (dk_at dksX1_cell_0 2 rfl rfl)
theorem dX1_cell_5 : decode cX1_cell 5 = .ok (.iload_n 1, 1) := dk_27 (dk_at dksX1_cell_0 5 rfl rfl)
theorem dX1_cell_6 : decode cX1_cell 6 = .ok (.invokestatic 96, 3) := dk_184 0 96 (dk_at dksX1_cell_0 6 rfl rfl)
theorem dX1_cell_9 : decode cX1_cell 9 = .ok (.ifCond .eq 10, 3) := dk_153 0 10 (dk_at dksX1_cell_0 9 rfl rfl)
theorem dX1_cell_12 : decode cX1_cell 12 = .ok (.iload_n 3, 1) := dk_29 (dk_at dksX1_cell_0 12 rfl rfl)
theorem dX1_cell_13 : decode cX1_cell 13 = .ok (.invokestatic 100, 3) := dk_184 0 100 (dk_at dksX1_cell_0 13 rfl rfl)
theorem dX1_cell_16 : decode cX1_cell 16 = .ok (.ifCond .ne 7, 3) := dk_154 0 7 (dk_at dksX1_cell_0 16 rfl rfl)
theorem dX1_cell_19 : decode cX1_cell 19 = .ok (.ldc2_w 80, 3) := dk_20 0 80 (dk_at dksX1_cell_0 19 rfl rfl)
theorem dX1_cell_22 : decode cX1_cell 22 = .ok (.lreturn, 1) := dk_173 (dk_at dksX1_cell_0 22 rfl rfl)
theorem dX1_cell_23 : decode cX1_cell 23 = .ok (.aload_n 0, 1) := dk_42 (dk_at dksX1_cell_0 23 rfl rfl)
theorem dX1_cell_24 : decode cX1_cell 24 = .ok (.getfield 9, 3) := dk_180 0 9 (dk_at dksX1_cell_1 0 rfl rfl)
theorem dX1_cell_27 : decode cX1_cell 27 = .ok (.iload_n 1, 1) := dk_27 (dk_at dksX1_cell_1 3 rfl rfl)
theorem dX1_cell_28 : decode cX1_cell 28 = .ok (.iaload, 1) := dk_46 (dk_at dksX1_cell_1 4 rfl rfl)
theorem dX1_cell_29 : decode cX1_cell 29 = .ok (.bipush (-9), 2) := dk_16 247 (dk_at dksX1_cell_1 5 rfl rfl)
theorem dX1_cell_31 : decode cX1_cell 31 = .ok (.if_icmp .eq 19, 3) := dk_159 0 19 (dk_at dksX1_cell_1 7 rfl rfl)
theorem dX1_cell_34 : decode cX1_cell 34 = .ok (.aload_n 0, 1) := dk_42 (dk_at dksX1_cell_1 10 rfl rfl)
theorem dX1_cell_35 : decode cX1_cell 35 = .ok (.getfield 9, 3) := dk_180 0 9 (dk_at dksX1_cell_1 11 rfl rfl)
theorem dX1_cell_38 : decode cX1_cell 38 = .ok (.iload_n 1, 1) := dk_27 (dk_at dksX1_cell_1 14 rfl rfl)
theorem dX1_cell_39 : decode cX1_cell 39 = .ok (.iaload, 1) := dk_46 (dk_at dksX1_cell_1 15 rfl rfl)
theorem dX1_cell_40 : decode cX1_cell 40 = .ok (.iload_n 3, 1) := dk_29 (dk_at dksX1_cell_1 16 rfl rfl)
theorem dX1_cell_41 : decode cX1_cell 41 = .ok (.if_icmp .eq 9, 3) := dk_159 0 9 (dk_at dksX1_cell_1 17 rfl rfl)
theorem dX1_cell_44 : decode cX1_cell 44 = .ok (.aload_n 0, 1) := dk_42 (dk_at dksX1_cell_1 20 rfl rfl)
theorem dX1_cell_45 : decode cX1_cell 45 = .ok (.iconst 2, 1) := dk_5 (dk_at dksX1_cell_1 21 rfl rfl)
theorem dX1_cell_46 : decode cX1_cell 46 = .ok (.invokevirtual 207, 3) := dk_182 0 207 (dk_at dksX1_cell_2 0 rfl rfl)
theorem dX1_cell_49 : decode cX1_cell 49 = .ok (.lreturn, 1) := dk_173 (dk_at dksX1_cell_2 3 rfl rfl)
theorem dX1_cell_50 : decode cX1_cell 50 = .ok (.aload_n 0, 1) := dk_42 (dk_at dksX1_cell_2 4 rfl rfl)
theorem dX1_cell_51 : decode cX1_cell 51 = .ok (.getfield 9, 3) := dk_180 0 9 (dk_at dksX1_cell_2 5 rfl rfl)
theorem dX1_cell_54 : decode cX1_cell 54 = .ok (.iload_n 1, 1) := dk_27 (dk_at dksX1_cell_2 8 rfl rfl)
theorem dX1_cell_55 : decode cX1_cell 55 = .ok (.iaload, 1) := dk_46 (dk_at dksX1_cell_2 9 rfl rfl)
theorem dX1_cell_56 : decode cX1_cell 56 = .ok (.bipush (-9), 2) := dk_16 247 (dk_at dksX1_cell_2 10 rfl rfl)
theorem dX1_cell_58 : decode cX1_cell 58 = .ok (.if_icmp .ne 9, 3) := dk_160 0 9 (dk_at dksX1_cell_2 12 rfl rfl)
theorem dX1_cell_61 : decode cX1_cell 61 = .ok (.aload_n 0, 1) := dk_42 (dk_at dksX1_cell_2 15 rfl rfl)
theorem dX1_cell_62 : decode cX1_cell 62 = .ok (.iconst 1, 1) := dk_4 (dk_at dksX1_cell_2 16 rfl rfl)
theorem dX1_cell_63 : decode cX1_cell 63 = .ok (.invokevirtual 207, 3) := dk_182 0 207 (dk_at dksX1_cell_2 17 rfl rfl)
theorem dX1_cell_66 : decode cX1_cell 66 = .ok (.lreturn, 1) := dk_173 (dk_at dksX1_cell_2 20 rfl rfl)
theorem dX1_cell_67 : decode cX1_cell 67 = .ok (.iload_n 2, 1) := dk_28 (dk_at dksX1_cell_2 21 rfl rfl)
theorem dX1_cell_68 : decode cX1_cell 68 = .ok (.iconst 0, 1) := dk_3 (dk_at dksX1_cell_2 22 rfl rfl)
theorem dX1_cell_69 : decode cX1_cell 69 = .ok (.aload_n 0, 1) := dk_42 (dk_at dksX1_cell_2 23 rfl rfl)
theorem dX1_cell_70 : decode cX1_cell 70 = .ok (.getfield 13, 3) := dk_180 0 13 (dk_at dksX1_cell_3 0 rfl rfl)
theorem dX1_cell_73 : decode cX1_cell 73 = .ok (.iload_n 1, 1) := dk_27 (dk_at dksX1_cell_3 3 rfl rfl)
theorem dX1_cell_74 : decode cX1_cell 74 = .ok (.iaload, 1) := dk_46 (dk_at dksX1_cell_3 4 rfl rfl)
theorem dX1_cell_75 : decode cX1_cell 75 = .ok (.iconst 1, 1) := dk_4 (dk_at dksX1_cell_3 5 rfl rfl)
theorem dX1_cell_76 : decode cX1_cell 76 = .ok (.isub, 1) := dk_100 (dk_at dksX1_cell_3 6 rfl rfl)
theorem dX1_cell_77 : decode cX1_cell 77 = .ok (.invokestatic 82, 3) := dk_184 0 82 (dk_at dksX1_cell_3 7 rfl rfl)
theorem dX1_cell_80 : decode cX1_cell 80 = .ok (.ifCond .ne 9, 3) := dk_154 0 9 (dk_at dksX1_cell_3 10 rfl rfl)
theorem dX1_cell_83 : decode cX1_cell 83 = .ok (.aload_n 0, 1) := dk_42 (dk_at dksX1_cell_3 13 rfl rfl)
theorem dX1_cell_84 : decode cX1_cell 84 = .ok (.iconst 3, 1) := dk_6 (dk_at dksX1_cell_3 14 rfl rfl)
theorem dX1_cell_85 : decode cX1_cell 85 = .ok (.invokevirtual 207, 3) := dk_182 0 207 (dk_at dksX1_cell_3 15 rfl rfl)
theorem dX1_cell_88 : decode cX1_cell 88 = .ok (.lreturn, 1) := dk_173 (dk_at dksX1_cell_3 18 rfl rfl)
theorem dX1_cell_89 : decode cX1_cell 89 = .ok (.aload_n 0, 1) := dk_42 (dk_at dksX1_cell_3 19 rfl rfl)
theorem dX1_cell_90 : decode cX1_cell 90 = .ok (.getfield 16, 3) := dk_180 0 16 (dk_at dksX1_cell_3 20 rfl rfl)
theorem dX1_cell_93 : decode cX1_cell 93 = .ok (.bipush 60, 2) := dk_16 60 (dk_at dksX1_cell_4 0 rfl rfl)
theorem dX1_cell_95 : decode cX1_cell 95 = .ok (.iload_n 1, 1) := dk_27 (dk_at dksX1_cell_4 2 rfl rfl)
theorem dX1_cell_96 : decode cX1_cell 96 = .ok (.imul, 1) := dk_104 (dk_at dksX1_cell_4 3 rfl rfl)
theorem dX1_cell_97 : decode cX1_cell 97 = .ok (.iload_n 2, 1) := dk_28 (dk_at dksX1_cell_4 4 rfl rfl)
theorem dX1_cell_98 : decode cX1_cell 98 = .ok (.iadd, 1) := dk_96 (dk_at dksX1_cell_4 5 rfl rfl)
theorem dX1_cell_99 : decode cX1_cell 99 = .ok (.iaload, 1) := dk_46 (dk_at dksX1_cell_4 6 rfl rfl)
theorem dX1_cell_100 : decode cX1_cell 100 = .ok (.i2l, 1) := dk_133 (dk_at dksX1_cell_4 7 rfl rfl)
theorem dX1_cell_101 : decode cX1_cell 101 = .ok (.lreturn, 1) := dk_173 (dk_at dksX1_cell_4 8 rfl rfl)
abbrev cX1_lost : ByteArray := prog_16_method_4_code
def yX1_lost : MethodName := ⟨RX1, "lost", "(I)J"⟩
def dkwX1_lost_0 : List UInt8 := [42, 27, 181, 0, 76, 20, 0, 80, 173]
abbrev dktX1_lost_0 : List UInt8 := dkwX1_lost_0 ++ []
theorem dksX1_lost_0 : cX1_lost.data.toList.drop 0 = dktX1_lost_0 := by decide +kernel
theorem dX1_lost_0 : decode cX1_lost 0 = .ok (.aload_n 0, 1) := dk_42 (dk_at dksX1_lost_0 0 rfl rfl)
theorem dX1_lost_1 : decode cX1_lost 1 = .ok (.iload_n 1, 1) := dk_27 (dk_at dksX1_lost_0 1 rfl rfl)
theorem dX1_lost_2 : decode cX1_lost 2 = .ok (.putfield 76, 3) := dk_181 0 76 (dk_at dksX1_lost_0 2 rfl rfl)
theorem dX1_lost_5 : decode cX1_lost 5 = .ok (.ldc2_w 80, 3) := dk_20 0 80 (dk_at dksX1_lost_0 5 rfl rfl)
theorem dX1_lost_8 : decode cX1_lost 8 = .ok (.lreturn, 1) := dk_173 (dk_at dksX1_lost_0 8 rfl rfl)
abbrev cX1_copy : ByteArray := prog_16_method_58_code
def yX1_copy : MethodName := ⟨RX1, "copy", "(IIIII)I"⟩
def dkwX1_copy_9 : List UInt8 := [180, 0, 16, 16, 60, 27, 104, 28, 96, 21, 9, 96, 46, 79, 132, 8, 1, 167, 255, 198, 21, 5, 172]
abbrev dktX1_copy_9 : List UInt8 := dkwX1_copy_9 ++ []
def dkwX1_copy_8 : List UInt8 := [167, 0, 5, 21, 8, 54, 9, 42, 180, 0, 16, 16, 60, 29, 104, 21, 4, 96, 21, 9, 96, 42]
abbrev dktX1_copy_8 : List UInt8 := dkwX1_copy_8 ++ dktX1_copy_9
def dkwX1_copy_7 : List UInt8 := [54, 7, 3, 54, 8, 21, 8, 21, 5, 162, 0, 57, 21, 7, 153, 0, 13, 21, 5, 4, 100, 21, 8, 100]
abbrev dktX1_copy_7 : List UInt8 := dkwX1_copy_7 ++ dktX1_copy_8
def dkwX1_copy_6 : List UInt8 := [21, 4, 100, 164, 0, 9, 42, 6, 182, 0, 107, 172, 28, 21, 4, 162, 0, 7, 4, 167, 0, 4, 3]
abbrev dktX1_copy_6 : List UInt8 := dkwX1_copy_6 ++ dktX1_copy_7
def dkwX1_copy_5 : List UInt8 := [153, 0, 30, 21, 5, 42, 180, 0, 13, 27, 46, 28, 100, 163, 0, 17, 21, 5, 42, 180, 0, 13, 29, 46]
abbrev dktX1_copy_5 : List UInt8 := dkwX1_copy_5 ++ dktX1_copy_6
def dkwX1_copy_4 : List UInt8 := [163, 0, 18, 21, 4, 42, 180, 0, 13, 29, 46, 163, 0, 7, 4, 167, 0, 4, 3, 54, 6, 21, 6]
abbrev dktX1_copy_4 : List UInt8 := dkwX1_copy_4 ++ dktX1_copy_5
def dkwX1_copy_3 : List UInt8 := [172, 28, 155, 0, 38, 21, 4, 155, 0, 33, 21, 5, 155, 0, 28, 28, 42, 180, 0, 13, 27, 46]
abbrev dktX1_copy_3 : List UInt8 := dkwX1_copy_3 ++ dktX1_copy_4
def dkwX1_copy_2 : List UInt8 := [182, 0, 107, 172, 42, 180, 0, 9, 27, 46, 42, 180, 0, 9, 29, 46, 159, 0, 9, 42, 5, 182, 0, 107]
abbrev dktX1_copy_2 : List UInt8 := dkwX1_copy_2 ++ dktX1_copy_3
def dkwX1_copy_1 : List UInt8 := [180, 0, 9, 27, 46, 16, 247, 159, 0, 14, 42, 180, 0, 9, 29, 46, 16, 247, 160, 0, 9, 42, 4]
abbrev dktX1_copy_1 : List UInt8 := dkwX1_copy_1 ++ dktX1_copy_2
def dkwX1_copy_0 : List UInt8 := [42, 3, 181, 0, 76, 27, 184, 0, 96, 153, 0, 10, 29, 184, 0, 96, 154, 0, 5, 2, 172, 42]
abbrev dktX1_copy_0 : List UInt8 := dkwX1_copy_0 ++ dktX1_copy_1
theorem dksX1_copy_0 : cX1_copy.data.toList.drop 0 = dktX1_copy_0 := by decide +kernel
theorem dksX1_copy_1 : cX1_copy.data.toList.drop 22 = dktX1_copy_1 := dk_seg dksX1_copy_0 22 rfl rfl
theorem dksX1_copy_2 : cX1_copy.data.toList.drop 45 = dktX1_copy_2 := dk_seg dksX1_copy_1 23 rfl rfl
theorem dksX1_copy_3 : cX1_copy.data.toList.drop 69 = dktX1_copy_3 := dk_seg dksX1_copy_2 24 rfl rfl
theorem dksX1_copy_4 : cX1_copy.data.toList.drop 91 = dktX1_copy_4 := dk_seg dksX1_copy_3 22 rfl rfl
theorem dksX1_copy_5 : cX1_copy.data.toList.drop 114 = dktX1_copy_5 := dk_seg dksX1_copy_4 23 rfl rfl
theorem dksX1_copy_6 : cX1_copy.data.toList.drop 138 = dktX1_copy_6 := dk_seg dksX1_copy_5 24 rfl rfl
theorem dksX1_copy_7 : cX1_copy.data.toList.drop 161 = dktX1_copy_7 := dk_seg dksX1_copy_6 23 rfl rfl
theorem dksX1_copy_8 : cX1_copy.data.toList.drop 185 = dktX1_copy_8 := dk_seg dksX1_copy_7 24 rfl rfl
theorem dksX1_copy_9 : cX1_copy.data.toList.drop 207 = dktX1_copy_9 := dk_seg dksX1_copy_8 22 rfl rfl
theorem dX1_copy_0 : decode cX1_copy 0 = .ok (.aload_n 0, 1) := dk_42 (dk_at dksX1_copy_0 0 rfl rfl)
theorem dX1_copy_1 : decode cX1_copy 1 = .ok (.iconst 0, 1) := dk_3 (dk_at dksX1_copy_0 1 rfl rfl)
theorem dX1_copy_2 : decode cX1_copy 2 = .ok (.putfield 76, 3) := dk_181 0 76 (dk_at dksX1_copy_0 2 rfl rfl)
theorem dX1_copy_5 : decode cX1_copy 5 = .ok (.iload_n 1, 1) := dk_27 (dk_at dksX1_copy_0 5 rfl rfl)
theorem dX1_copy_6 : decode cX1_copy 6 = .ok (.invokestatic 96, 3) := dk_184 0 96 (dk_at dksX1_copy_0 6 rfl rfl)
theorem dX1_copy_9 : decode cX1_copy 9 = .ok (.ifCond .eq 10, 3) := dk_153 0 10 (dk_at dksX1_copy_0 9 rfl rfl)
theorem dX1_copy_12 : decode cX1_copy 12 = .ok (.iload_n 3, 1) := dk_29 (dk_at dksX1_copy_0 12 rfl rfl)
theorem dX1_copy_13 : decode cX1_copy 13 = .ok (.invokestatic 96, 3) := dk_184 0 96 (dk_at dksX1_copy_0 13 rfl rfl)
theorem dX1_copy_16 : decode cX1_copy 16 = .ok (.ifCond .ne 5, 3) := dk_154 0 5 (dk_at dksX1_copy_0 16 rfl rfl)
theorem dX1_copy_19 : decode cX1_copy 19 = .ok (.iconst (-1), 1) := dk_2 (dk_at dksX1_copy_0 19 rfl rfl)
theorem dX1_copy_20 : decode cX1_copy 20 = .ok (.ireturn, 1) := dk_172 (dk_at dksX1_copy_0 20 rfl rfl)
theorem dX1_copy_21 : decode cX1_copy 21 = .ok (.aload_n 0, 1) := dk_42 (dk_at dksX1_copy_0 21 rfl rfl)
theorem dX1_copy_22 : decode cX1_copy 22 = .ok (.getfield 9, 3) := dk_180 0 9 (dk_at dksX1_copy_1 0 rfl rfl)
theorem dX1_copy_25 : decode cX1_copy 25 = .ok (.iload_n 1, 1) := dk_27 (dk_at dksX1_copy_1 3 rfl rfl)
theorem dX1_copy_26 : decode cX1_copy 26 = .ok (.iaload, 1) := dk_46 (dk_at dksX1_copy_1 4 rfl rfl)
theorem dX1_copy_27 : decode cX1_copy 27 = .ok (.bipush (-9), 2) := dk_16 247 (dk_at dksX1_copy_1 5 rfl rfl)
theorem dX1_copy_29 : decode cX1_copy 29 = .ok (.if_icmp .eq 14, 3) := dk_159 0 14 (dk_at dksX1_copy_1 7 rfl rfl)
theorem dX1_copy_32 : decode cX1_copy 32 = .ok (.aload_n 0, 1) := dk_42 (dk_at dksX1_copy_1 10 rfl rfl)
theorem dX1_copy_33 : decode cX1_copy 33 = .ok (.getfield 9, 3) := dk_180 0 9 (dk_at dksX1_copy_1 11 rfl rfl)
theorem dX1_copy_36 : decode cX1_copy 36 = .ok (.iload_n 3, 1) := dk_29 (dk_at dksX1_copy_1 14 rfl rfl)
theorem dX1_copy_37 : decode cX1_copy 37 = .ok (.iaload, 1) := dk_46 (dk_at dksX1_copy_1 15 rfl rfl)
theorem dX1_copy_38 : decode cX1_copy 38 = .ok (.bipush (-9), 2) := dk_16 247 (dk_at dksX1_copy_1 16 rfl rfl)
theorem dX1_copy_40 : decode cX1_copy 40 = .ok (.if_icmp .ne 9, 3) := dk_160 0 9 (dk_at dksX1_copy_1 18 rfl rfl)
theorem dX1_copy_43 : decode cX1_copy 43 = .ok (.aload_n 0, 1) := dk_42 (dk_at dksX1_copy_1 21 rfl rfl)
theorem dX1_copy_44 : decode cX1_copy 44 = .ok (.iconst 1, 1) := dk_4 (dk_at dksX1_copy_1 22 rfl rfl)
theorem dX1_copy_45 : decode cX1_copy 45 = .ok (.invokevirtual 107, 3) := dk_182 0 107 (dk_at dksX1_copy_2 0 rfl rfl)
theorem dX1_copy_48 : decode cX1_copy 48 = .ok (.ireturn, 1) := dk_172 (dk_at dksX1_copy_2 3 rfl rfl)
theorem dX1_copy_49 : decode cX1_copy 49 = .ok (.aload_n 0, 1) := dk_42 (dk_at dksX1_copy_2 4 rfl rfl)
theorem dX1_copy_50 : decode cX1_copy 50 = .ok (.getfield 9, 3) := dk_180 0 9 (dk_at dksX1_copy_2 5 rfl rfl)
theorem dX1_copy_53 : decode cX1_copy 53 = .ok (.iload_n 1, 1) := dk_27 (dk_at dksX1_copy_2 8 rfl rfl)
theorem dX1_copy_54 : decode cX1_copy 54 = .ok (.iaload, 1) := dk_46 (dk_at dksX1_copy_2 9 rfl rfl)
theorem dX1_copy_55 : decode cX1_copy 55 = .ok (.aload_n 0, 1) := dk_42 (dk_at dksX1_copy_2 10 rfl rfl)
theorem dX1_copy_56 : decode cX1_copy 56 = .ok (.getfield 9, 3) := dk_180 0 9 (dk_at dksX1_copy_2 11 rfl rfl)
theorem dX1_copy_59 : decode cX1_copy 59 = .ok (.iload_n 3, 1) := dk_29 (dk_at dksX1_copy_2 14 rfl rfl)
theorem dX1_copy_60 : decode cX1_copy 60 = .ok (.iaload, 1) := dk_46 (dk_at dksX1_copy_2 15 rfl rfl)
theorem dX1_copy_61 : decode cX1_copy 61 = .ok (.if_icmp .eq 9, 3) := dk_159 0 9 (dk_at dksX1_copy_2 16 rfl rfl)
theorem dX1_copy_64 : decode cX1_copy 64 = .ok (.aload_n 0, 1) := dk_42 (dk_at dksX1_copy_2 19 rfl rfl)
theorem dX1_copy_65 : decode cX1_copy 65 = .ok (.iconst 2, 1) := dk_5 (dk_at dksX1_copy_2 20 rfl rfl)
theorem dX1_copy_66 : decode cX1_copy 66 = .ok (.invokevirtual 107, 3) := dk_182 0 107 (dk_at dksX1_copy_2 21 rfl rfl)
theorem dX1_copy_69 : decode cX1_copy 69 = .ok (.ireturn, 1) := dk_172 (dk_at dksX1_copy_3 0 rfl rfl)
theorem dX1_copy_70 : decode cX1_copy 70 = .ok (.iload_n 2, 1) := dk_28 (dk_at dksX1_copy_3 1 rfl rfl)
theorem dX1_copy_71 : decode cX1_copy 71 = .ok (.ifCond .lt 38, 3) := dk_155 0 38 (dk_at dksX1_copy_3 2 rfl rfl)
theorem dX1_copy_74 : decode cX1_copy 74 = .ok (.iload 4, 2) := dk_21 4 (dk_at dksX1_copy_3 5 rfl rfl)
theorem dX1_copy_76 : decode cX1_copy 76 = .ok (.ifCond .lt 33, 3) := dk_155 0 33 (dk_at dksX1_copy_3 7 rfl rfl)
theorem dX1_copy_79 : decode cX1_copy 79 = .ok (.iload 5, 2) := dk_21 5 (dk_at dksX1_copy_3 10 rfl rfl)
theorem dX1_copy_81 : decode cX1_copy 81 = .ok (.ifCond .lt 28, 3) := dk_155 0 28 (dk_at dksX1_copy_3 12 rfl rfl)
theorem dX1_copy_84 : decode cX1_copy 84 = .ok (.iload_n 2, 1) := dk_28 (dk_at dksX1_copy_3 15 rfl rfl)
theorem dX1_copy_85 : decode cX1_copy 85 = .ok (.aload_n 0, 1) := dk_42 (dk_at dksX1_copy_3 16 rfl rfl)
theorem dX1_copy_86 : decode cX1_copy 86 = .ok (.getfield 13, 3) := dk_180 0 13 (dk_at dksX1_copy_3 17 rfl rfl)
theorem dX1_copy_89 : decode cX1_copy 89 = .ok (.iload_n 1, 1) := dk_27 (dk_at dksX1_copy_3 20 rfl rfl)
theorem dX1_copy_90 : decode cX1_copy 90 = .ok (.iaload, 1) := dk_46 (dk_at dksX1_copy_3 21 rfl rfl)
theorem dX1_copy_91 : decode cX1_copy 91 = .ok (.if_icmp .gt 18, 3) := dk_163 0 18 (dk_at dksX1_copy_4 0 rfl rfl)
theorem dX1_copy_94 : decode cX1_copy 94 = .ok (.iload 4, 2) := dk_21 4 (dk_at dksX1_copy_4 3 rfl rfl)
theorem dX1_copy_96 : decode cX1_copy 96 = .ok (.aload_n 0, 1) := dk_42 (dk_at dksX1_copy_4 5 rfl rfl)
theorem dX1_copy_97 : decode cX1_copy 97 = .ok (.getfield 13, 3) := dk_180 0 13 (dk_at dksX1_copy_4 6 rfl rfl)
theorem dX1_copy_100 : decode cX1_copy 100 = .ok (.iload_n 3, 1) := dk_29 (dk_at dksX1_copy_4 9 rfl rfl)
theorem dX1_copy_101 : decode cX1_copy 101 = .ok (.iaload, 1) := dk_46 (dk_at dksX1_copy_4 10 rfl rfl)
theorem dX1_copy_102 : decode cX1_copy 102 = .ok (.if_icmp .gt 7, 3) := dk_163 0 7 (dk_at dksX1_copy_4 11 rfl rfl)
theorem dX1_copy_105 : decode cX1_copy 105 = .ok (.iconst 1, 1) := dk_4 (dk_at dksX1_copy_4 14 rfl rfl)
theorem dX1_copy_106 : decode cX1_copy 106 = .ok (.goto 4, 3) := dk_167 0 4 (dk_at dksX1_copy_4 15 rfl rfl)
theorem dX1_copy_109 : decode cX1_copy 109 = .ok (.iconst 0, 1) := dk_3 (dk_at dksX1_copy_4 18 rfl rfl)
theorem dX1_copy_110 : decode cX1_copy 110 = .ok (.istore 6, 2) := dk_54 6 (dk_at dksX1_copy_4 19 rfl rfl)
theorem dX1_copy_112 : decode cX1_copy 112 = .ok (.iload 6, 2) := dk_21 6 (dk_at dksX1_copy_4 21 rfl rfl)
theorem dX1_copy_114 : decode cX1_copy 114 = .ok (.ifCond .eq 30, 3) := dk_153 0 30 (dk_at dksX1_copy_5 0 rfl rfl)
theorem dX1_copy_117 : decode cX1_copy 117 = .ok (.iload 5, 2) := dk_21 5 (dk_at dksX1_copy_5 3 rfl rfl)
theorem dX1_copy_119 : decode cX1_copy 119 = .ok (.aload_n 0, 1) := dk_42 (dk_at dksX1_copy_5 5 rfl rfl)
theorem dX1_copy_120 : decode cX1_copy 120 = .ok (.getfield 13, 3) := dk_180 0 13 (dk_at dksX1_copy_5 6 rfl rfl)
theorem dX1_copy_123 : decode cX1_copy 123 = .ok (.iload_n 1, 1) := dk_27 (dk_at dksX1_copy_5 9 rfl rfl)
theorem dX1_copy_124 : decode cX1_copy 124 = .ok (.iaload, 1) := dk_46 (dk_at dksX1_copy_5 10 rfl rfl)
theorem dX1_copy_125 : decode cX1_copy 125 = .ok (.iload_n 2, 1) := dk_28 (dk_at dksX1_copy_5 11 rfl rfl)
theorem dX1_copy_126 : decode cX1_copy 126 = .ok (.isub, 1) := dk_100 (dk_at dksX1_copy_5 12 rfl rfl)
theorem dX1_copy_127 : decode cX1_copy 127 = .ok (.if_icmp .gt 17, 3) := dk_163 0 17 (dk_at dksX1_copy_5 13 rfl rfl)
theorem dX1_copy_130 : decode cX1_copy 130 = .ok (.iload 5, 2) := dk_21 5 (dk_at dksX1_copy_5 16 rfl rfl)
theorem dX1_copy_132 : decode cX1_copy 132 = .ok (.aload_n 0, 1) := dk_42 (dk_at dksX1_copy_5 18 rfl rfl)
theorem dX1_copy_133 : decode cX1_copy 133 = .ok (.getfield 13, 3) := dk_180 0 13 (dk_at dksX1_copy_5 19 rfl rfl)
theorem dX1_copy_136 : decode cX1_copy 136 = .ok (.iload_n 3, 1) := dk_29 (dk_at dksX1_copy_5 22 rfl rfl)
theorem dX1_copy_137 : decode cX1_copy 137 = .ok (.iaload, 1) := dk_46 (dk_at dksX1_copy_5 23 rfl rfl)
theorem dX1_copy_138 : decode cX1_copy 138 = .ok (.iload 4, 2) := dk_21 4 (dk_at dksX1_copy_6 0 rfl rfl)
theorem dX1_copy_140 : decode cX1_copy 140 = .ok (.isub, 1) := dk_100 (dk_at dksX1_copy_6 2 rfl rfl)
theorem dX1_copy_141 : decode cX1_copy 141 = .ok (.if_icmp .le 9, 3) := dk_164 0 9 (dk_at dksX1_copy_6 3 rfl rfl)
theorem dX1_copy_144 : decode cX1_copy 144 = .ok (.aload_n 0, 1) := dk_42 (dk_at dksX1_copy_6 6 rfl rfl)
theorem dX1_copy_145 : decode cX1_copy 145 = .ok (.iconst 3, 1) := dk_6 (dk_at dksX1_copy_6 7 rfl rfl)
theorem dX1_copy_146 : decode cX1_copy 146 = .ok (.invokevirtual 107, 3) := dk_182 0 107 (dk_at dksX1_copy_6 8 rfl rfl)
theorem dX1_copy_149 : decode cX1_copy 149 = .ok (.ireturn, 1) := dk_172 (dk_at dksX1_copy_6 11 rfl rfl)
theorem dX1_copy_150 : decode cX1_copy 150 = .ok (.iload_n 2, 1) := dk_28 (dk_at dksX1_copy_6 12 rfl rfl)
theorem dX1_copy_151 : decode cX1_copy 151 = .ok (.iload 4, 2) := dk_21 4 (dk_at dksX1_copy_6 13 rfl rfl)
theorem dX1_copy_153 : decode cX1_copy 153 = .ok (.if_icmp .ge 7, 3) := dk_162 0 7 (dk_at dksX1_copy_6 15 rfl rfl)
theorem dX1_copy_156 : decode cX1_copy 156 = .ok (.iconst 1, 1) := dk_4 (dk_at dksX1_copy_6 18 rfl rfl)
theorem dX1_copy_157 : decode cX1_copy 157 = .ok (.goto 4, 3) := dk_167 0 4 (dk_at dksX1_copy_6 19 rfl rfl)
theorem dX1_copy_160 : decode cX1_copy 160 = .ok (.iconst 0, 1) := dk_3 (dk_at dksX1_copy_6 22 rfl rfl)
theorem dX1_copy_161 : decode cX1_copy 161 = .ok (.istore 7, 2) := dk_54 7 (dk_at dksX1_copy_7 0 rfl rfl)
theorem dX1_copy_163 : decode cX1_copy 163 = .ok (.iconst 0, 1) := dk_3 (dk_at dksX1_copy_7 2 rfl rfl)
theorem dX1_copy_164 : decode cX1_copy 164 = .ok (.istore 8, 2) := dk_54 8 (dk_at dksX1_copy_7 3 rfl rfl)
theorem dX1_copy_166 : decode cX1_copy 166 = .ok (.iload 8, 2) := dk_21 8 (dk_at dksX1_copy_7 5 rfl rfl)
theorem dX1_copy_168 : decode cX1_copy 168 = .ok (.iload 5, 2) := dk_21 5 (dk_at dksX1_copy_7 7 rfl rfl)
theorem dX1_copy_170 : decode cX1_copy 170 = .ok (.if_icmp .ge 57, 3) := dk_162 0 57 (dk_at dksX1_copy_7 9 rfl rfl)
theorem dX1_copy_173 : decode cX1_copy 173 = .ok (.iload 7, 2) := dk_21 7 (dk_at dksX1_copy_7 12 rfl rfl)
theorem dX1_copy_175 : decode cX1_copy 175 = .ok (.ifCond .eq 13, 3) := dk_153 0 13 (dk_at dksX1_copy_7 14 rfl rfl)
theorem dX1_copy_178 : decode cX1_copy 178 = .ok (.iload 5, 2) := dk_21 5 (dk_at dksX1_copy_7 17 rfl rfl)
theorem dX1_copy_180 : decode cX1_copy 180 = .ok (.iconst 1, 1) := dk_4 (dk_at dksX1_copy_7 19 rfl rfl)
theorem dX1_copy_181 : decode cX1_copy 181 = .ok (.isub, 1) := dk_100 (dk_at dksX1_copy_7 20 rfl rfl)
theorem dX1_copy_182 : decode cX1_copy 182 = .ok (.iload 8, 2) := dk_21 8 (dk_at dksX1_copy_7 21 rfl rfl)
theorem dX1_copy_184 : decode cX1_copy 184 = .ok (.isub, 1) := dk_100 (dk_at dksX1_copy_7 23 rfl rfl)
theorem dX1_copy_185 : decode cX1_copy 185 = .ok (.goto 5, 3) := dk_167 0 5 (dk_at dksX1_copy_8 0 rfl rfl)
theorem dX1_copy_188 : decode cX1_copy 188 = .ok (.iload 8, 2) := dk_21 8 (dk_at dksX1_copy_8 3 rfl rfl)
theorem dX1_copy_190 : decode cX1_copy 190 = .ok (.istore 9, 2) := dk_54 9 (dk_at dksX1_copy_8 5 rfl rfl)
theorem dX1_copy_192 : decode cX1_copy 192 = .ok (.aload_n 0, 1) := dk_42 (dk_at dksX1_copy_8 7 rfl rfl)
theorem dX1_copy_193 : decode cX1_copy 193 = .ok (.getfield 16, 3) := dk_180 0 16 (dk_at dksX1_copy_8 8 rfl rfl)
theorem dX1_copy_196 : decode cX1_copy 196 = .ok (.bipush 60, 2) := dk_16 60 (dk_at dksX1_copy_8 11 rfl rfl)
theorem dX1_copy_198 : decode cX1_copy 198 = .ok (.iload_n 3, 1) := dk_29 (dk_at dksX1_copy_8 13 rfl rfl)
theorem dX1_copy_199 : decode cX1_copy 199 = .ok (.imul, 1) := dk_104 (dk_at dksX1_copy_8 14 rfl rfl)
theorem dX1_copy_200 : decode cX1_copy 200 = .ok (.iload 4, 2) := dk_21 4 (dk_at dksX1_copy_8 15 rfl rfl)
theorem dX1_copy_202 : decode cX1_copy 202 = .ok (.iadd, 1) := dk_96 (dk_at dksX1_copy_8 17 rfl rfl)
theorem dX1_copy_203 : decode cX1_copy 203 = .ok (.iload 9, 2) := dk_21 9 (dk_at dksX1_copy_8 18 rfl rfl)
theorem dX1_copy_205 : decode cX1_copy 205 = .ok (.iadd, 1) := dk_96 (dk_at dksX1_copy_8 20 rfl rfl)
theorem dX1_copy_206 : decode cX1_copy 206 = .ok (.aload_n 0, 1) := dk_42 (dk_at dksX1_copy_8 21 rfl rfl)
theorem dX1_copy_207 : decode cX1_copy 207 = .ok (.getfield 16, 3) := dk_180 0 16 (dk_at dksX1_copy_9 0 rfl rfl)
theorem dX1_copy_210 : decode cX1_copy 210 = .ok (.bipush 60, 2) := dk_16 60 (dk_at dksX1_copy_9 3 rfl rfl)
theorem dX1_copy_212 : decode cX1_copy 212 = .ok (.iload_n 1, 1) := dk_27 (dk_at dksX1_copy_9 5 rfl rfl)
theorem dX1_copy_213 : decode cX1_copy 213 = .ok (.imul, 1) := dk_104 (dk_at dksX1_copy_9 6 rfl rfl)
theorem dX1_copy_214 : decode cX1_copy 214 = .ok (.iload_n 2, 1) := dk_28 (dk_at dksX1_copy_9 7 rfl rfl)
theorem dX1_copy_215 : decode cX1_copy 215 = .ok (.iadd, 1) := dk_96 (dk_at dksX1_copy_9 8 rfl rfl)
theorem dX1_copy_216 : decode cX1_copy 216 = .ok (.iload 9, 2) := dk_21 9 (dk_at dksX1_copy_9 9 rfl rfl)
theorem dX1_copy_218 : decode cX1_copy 218 = .ok (.iadd, 1) := dk_96 (dk_at dksX1_copy_9 11 rfl rfl)
theorem dX1_copy_219 : decode cX1_copy 219 = .ok (.iaload, 1) := dk_46 (dk_at dksX1_copy_9 12 rfl rfl)
theorem dX1_copy_220 : decode cX1_copy 220 = .ok (.iastore, 1) := dk_79 (dk_at dksX1_copy_9 13 rfl rfl)
theorem dX1_copy_221 : decode cX1_copy 221 = .ok (.iinc 8 1, 3) := dk_132 8 1 (dk_at dksX1_copy_9 14 rfl rfl)
theorem dX1_copy_224 : decode cX1_copy 224 = .ok (.goto (-58), 3) := dk_167 255 198 (dk_at dksX1_copy_9 17 rfl rfl)
theorem dX1_copy_227 : decode cX1_copy 227 = .ok (.iload 5, 2) := dk_21 5 (dk_at dksX1_copy_9 20 rfl rfl)
theorem dX1_copy_229 : decode cX1_copy 229 = .ok (.ireturn, 1) := dk_172 (dk_at dksX1_copy_9 22 rfl rfl)
abbrev cX1_tell : ByteArray := prog_16_method_60_code
def yX1_tell : MethodName := ⟨RX1, "tell", "(I)I"⟩
def dkwX1_tell_4 : List UInt8 := [182, 0, 214, 28, 172]
abbrev dktX1_tell_4 : List UInt8 := dkwX1_tell_4 ++ []
def dkwX1_tell_3 : List UInt8 := [182, 0, 214, 42, 4, 182, 0, 214, 42, 4, 182, 0, 214, 5, 28, 104, 16, 100, 96, 172, 42, 4]
abbrev dktX1_tell_3 : List UInt8 := dkwX1_tell_3 ++ dktX1_tell_4
def dkwX1_tell_2 : List UInt8 := [42, 5, 182, 0, 214, 42, 4, 182, 0, 214, 28, 16, 100, 96, 172, 42, 6, 182, 0, 214, 42, 5]
abbrev dktX1_tell_2 : List UInt8 := dkwX1_tell_2 ++ dktX1_tell_3
def dkwX1_tell_1 : List UInt8 := [171, 0, 0, 0, 67, 0, 0, 0, 2, 0, 0, 0, 1, 0, 0, 0, 25, 0, 0, 0, 2, 0, 0, 0, 40]
abbrev dktX1_tell_1 : List UInt8 := dkwX1_tell_1 ++ dktX1_tell_2
def dkwX1_tell_0 : List UInt8 := [42, 27, 182, 0, 153, 154, 0, 5, 2, 172, 42, 180, 0, 49, 27, 46, 61, 42, 180, 0, 37, 27, 46]
abbrev dktX1_tell_0 : List UInt8 := dkwX1_tell_0 ++ dktX1_tell_1
theorem dksX1_tell_0 : cX1_tell.data.toList.drop 0 = dktX1_tell_0 := by decide +kernel
theorem dksX1_tell_1 : cX1_tell.data.toList.drop 23 = dktX1_tell_1 := dk_seg dksX1_tell_0 23 rfl rfl
theorem dksX1_tell_2 : cX1_tell.data.toList.drop 48 = dktX1_tell_2 := dk_seg dksX1_tell_1 25 rfl rfl
theorem dksX1_tell_3 : cX1_tell.data.toList.drop 70 = dktX1_tell_3 := dk_seg dksX1_tell_2 22 rfl rfl
theorem dksX1_tell_4 : cX1_tell.data.toList.drop 92 = dktX1_tell_4 := dk_seg dksX1_tell_3 22 rfl rfl
theorem dX1_tell_0 : decode cX1_tell 0 = .ok (.aload_n 0, 1) := dk_42 (dk_at dksX1_tell_0 0 rfl rfl)
theorem dX1_tell_1 : decode cX1_tell 1 = .ok (.iload_n 1, 1) := dk_27 (dk_at dksX1_tell_0 1 rfl rfl)
theorem dX1_tell_2 : decode cX1_tell 2 = .ok (.invokevirtual 153, 3) := dk_182 0 153 (dk_at dksX1_tell_0 2 rfl rfl)
theorem dX1_tell_5 : decode cX1_tell 5 = .ok (.ifCond .ne 5, 3) := dk_154 0 5 (dk_at dksX1_tell_0 5 rfl rfl)
theorem dX1_tell_8 : decode cX1_tell 8 = .ok (.iconst (-1), 1) := dk_2 (dk_at dksX1_tell_0 8 rfl rfl)
theorem dX1_tell_9 : decode cX1_tell 9 = .ok (.ireturn, 1) := dk_172 (dk_at dksX1_tell_0 9 rfl rfl)
theorem dX1_tell_10 : decode cX1_tell 10 = .ok (.aload_n 0, 1) := dk_42 (dk_at dksX1_tell_0 10 rfl rfl)
theorem dX1_tell_11 : decode cX1_tell 11 = .ok (.getfield 49, 3) := dk_180 0 49 (dk_at dksX1_tell_0 11 rfl rfl)
theorem dX1_tell_14 : decode cX1_tell 14 = .ok (.iload_n 1, 1) := dk_27 (dk_at dksX1_tell_0 14 rfl rfl)
theorem dX1_tell_15 : decode cX1_tell 15 = .ok (.iaload, 1) := dk_46 (dk_at dksX1_tell_0 15 rfl rfl)
theorem dX1_tell_16 : decode cX1_tell 16 = .ok (.istore_n 2, 1) := dk_61 (dk_at dksX1_tell_0 16 rfl rfl)
theorem dX1_tell_17 : decode cX1_tell 17 = .ok (.aload_n 0, 1) := dk_42 (dk_at dksX1_tell_0 17 rfl rfl)
theorem dX1_tell_18 : decode cX1_tell 18 = .ok (.getfield 37, 3) := dk_180 0 37 (dk_at dksX1_tell_0 18 rfl rfl)
theorem dX1_tell_21 : decode cX1_tell 21 = .ok (.iload_n 1, 1) := dk_27 (dk_at dksX1_tell_0 21 rfl rfl)
theorem dX1_tell_22 : decode cX1_tell 22 = .ok (.iaload, 1) := dk_46 (dk_at dksX1_tell_0 22 rfl rfl)
theorem dX1_tell_23 : decode cX1_tell 23 = .ok (.lookupswitch 67 #[(1, 25), (2, 40)], 25) := by decide +kernel
theorem dX1_tell_48 : decode cX1_tell 48 = .ok (.aload_n 0, 1) := dk_42 (dk_at dksX1_tell_2 0 rfl rfl)
theorem dX1_tell_49 : decode cX1_tell 49 = .ok (.iconst 2, 1) := dk_5 (dk_at dksX1_tell_2 1 rfl rfl)
theorem dX1_tell_50 : decode cX1_tell 50 = .ok (.invokevirtual 214, 3) := dk_182 0 214 (dk_at dksX1_tell_2 2 rfl rfl)
theorem dX1_tell_53 : decode cX1_tell 53 = .ok (.aload_n 0, 1) := dk_42 (dk_at dksX1_tell_2 5 rfl rfl)
theorem dX1_tell_54 : decode cX1_tell 54 = .ok (.iconst 1, 1) := dk_4 (dk_at dksX1_tell_2 6 rfl rfl)
theorem dX1_tell_55 : decode cX1_tell 55 = .ok (.invokevirtual 214, 3) := dk_182 0 214 (dk_at dksX1_tell_2 7 rfl rfl)
theorem dX1_tell_58 : decode cX1_tell 58 = .ok (.iload_n 2, 1) := dk_28 (dk_at dksX1_tell_2 10 rfl rfl)
theorem dX1_tell_59 : decode cX1_tell 59 = .ok (.bipush 100, 2) := dk_16 100 (dk_at dksX1_tell_2 11 rfl rfl)
theorem dX1_tell_61 : decode cX1_tell 61 = .ok (.iadd, 1) := dk_96 (dk_at dksX1_tell_2 13 rfl rfl)
theorem dX1_tell_62 : decode cX1_tell 62 = .ok (.ireturn, 1) := dk_172 (dk_at dksX1_tell_2 14 rfl rfl)
theorem dX1_tell_63 : decode cX1_tell 63 = .ok (.aload_n 0, 1) := dk_42 (dk_at dksX1_tell_2 15 rfl rfl)
theorem dX1_tell_64 : decode cX1_tell 64 = .ok (.iconst 3, 1) := dk_6 (dk_at dksX1_tell_2 16 rfl rfl)
theorem dX1_tell_65 : decode cX1_tell 65 = .ok (.invokevirtual 214, 3) := dk_182 0 214 (dk_at dksX1_tell_2 17 rfl rfl)
theorem dX1_tell_68 : decode cX1_tell 68 = .ok (.aload_n 0, 1) := dk_42 (dk_at dksX1_tell_2 20 rfl rfl)
theorem dX1_tell_69 : decode cX1_tell 69 = .ok (.iconst 2, 1) := dk_5 (dk_at dksX1_tell_2 21 rfl rfl)
theorem dX1_tell_70 : decode cX1_tell 70 = .ok (.invokevirtual 214, 3) := dk_182 0 214 (dk_at dksX1_tell_3 0 rfl rfl)
theorem dX1_tell_73 : decode cX1_tell 73 = .ok (.aload_n 0, 1) := dk_42 (dk_at dksX1_tell_3 3 rfl rfl)
theorem dX1_tell_74 : decode cX1_tell 74 = .ok (.iconst 1, 1) := dk_4 (dk_at dksX1_tell_3 4 rfl rfl)
theorem dX1_tell_75 : decode cX1_tell 75 = .ok (.invokevirtual 214, 3) := dk_182 0 214 (dk_at dksX1_tell_3 5 rfl rfl)
theorem dX1_tell_78 : decode cX1_tell 78 = .ok (.aload_n 0, 1) := dk_42 (dk_at dksX1_tell_3 8 rfl rfl)
theorem dX1_tell_79 : decode cX1_tell 79 = .ok (.iconst 1, 1) := dk_4 (dk_at dksX1_tell_3 9 rfl rfl)
theorem dX1_tell_80 : decode cX1_tell 80 = .ok (.invokevirtual 214, 3) := dk_182 0 214 (dk_at dksX1_tell_3 10 rfl rfl)
theorem dX1_tell_83 : decode cX1_tell 83 = .ok (.iconst 2, 1) := dk_5 (dk_at dksX1_tell_3 13 rfl rfl)
theorem dX1_tell_84 : decode cX1_tell 84 = .ok (.iload_n 2, 1) := dk_28 (dk_at dksX1_tell_3 14 rfl rfl)
theorem dX1_tell_85 : decode cX1_tell 85 = .ok (.imul, 1) := dk_104 (dk_at dksX1_tell_3 15 rfl rfl)
theorem dX1_tell_86 : decode cX1_tell 86 = .ok (.bipush 100, 2) := dk_16 100 (dk_at dksX1_tell_3 16 rfl rfl)
theorem dX1_tell_88 : decode cX1_tell 88 = .ok (.iadd, 1) := dk_96 (dk_at dksX1_tell_3 18 rfl rfl)
theorem dX1_tell_89 : decode cX1_tell 89 = .ok (.ireturn, 1) := dk_172 (dk_at dksX1_tell_3 19 rfl rfl)
theorem dX1_tell_90 : decode cX1_tell 90 = .ok (.aload_n 0, 1) := dk_42 (dk_at dksX1_tell_3 20 rfl rfl)
theorem dX1_tell_91 : decode cX1_tell 91 = .ok (.iconst 1, 1) := dk_4 (dk_at dksX1_tell_3 21 rfl rfl)
theorem dX1_tell_92 : decode cX1_tell 92 = .ok (.invokevirtual 214, 3) := dk_182 0 214 (dk_at dksX1_tell_4 0 rfl rfl)
theorem dX1_tell_95 : decode cX1_tell 95 = .ok (.iload_n 2, 1) := dk_28 (dk_at dksX1_tell_4 3 rfl rfl)
theorem dX1_tell_96 : decode cX1_tell 96 = .ok (.ireturn, 1) := dk_172 (dk_at dksX1_tell_4 4 rfl rfl)
abbrev cX1_begins : ByteArray := prog_16_method_59_code
def yX1_begins : MethodName := ⟨RX1, "begins", "(I)V"⟩
def dkwX1_begins_0 : List UInt8 := [42, 16, 31, 42, 180, 0, 211, 104, 27, 96, 181, 0, 211, 177]
abbrev dktX1_begins_0 : List UInt8 := dkwX1_begins_0 ++ []
theorem dksX1_begins_0 : cX1_begins.data.toList.drop 0 = dktX1_begins_0 := by decide +kernel
theorem dX1_begins_0 : decode cX1_begins 0 = .ok (.aload_n 0, 1) := dk_42 (dk_at dksX1_begins_0 0 rfl rfl)
theorem dX1_begins_1 : decode cX1_begins 1 = .ok (.bipush 31, 2) := dk_16 31 (dk_at dksX1_begins_0 1 rfl rfl)
theorem dX1_begins_3 : decode cX1_begins 3 = .ok (.aload_n 0, 1) := dk_42 (dk_at dksX1_begins_0 3 rfl rfl)
theorem dX1_begins_4 : decode cX1_begins 4 = .ok (.getfield 211, 3) := dk_180 0 211 (dk_at dksX1_begins_0 4 rfl rfl)
theorem dX1_begins_7 : decode cX1_begins 7 = .ok (.imul, 1) := dk_104 (dk_at dksX1_begins_0 7 rfl rfl)
theorem dX1_begins_8 : decode cX1_begins 8 = .ok (.iload_n 1, 1) := dk_27 (dk_at dksX1_begins_0 8 rfl rfl)
theorem dX1_begins_9 : decode cX1_begins 9 = .ok (.iadd, 1) := dk_96 (dk_at dksX1_begins_0 9 rfl rfl)
theorem dX1_begins_10 : decode cX1_begins 10 = .ok (.putfield 211, 3) := dk_181 0 211 (dk_at dksX1_begins_0 10 rfl rfl)
theorem dX1_begins_13 : decode cX1_begins 13 = .ok (.return_, 1) := dk_177 (dk_at dksX1_begins_0 13 rfl rfl)
abbrev cX1_stake : ByteArray := prog_16_method_61_code
def yX1_stake : MethodName := ⟨RX1, "stake", "(I)I"⟩
def dkwX1_stake_1 : List UInt8 := [167, 0, 4, 7, 182, 0, 214, 42, 180, 0, 37, 27, 46, 5, 160, 0, 8, 16, 40, 167, 0, 4, 27, 172]
abbrev dktX1_stake_1 : List UInt8 := dkwX1_stake_1 ++ []
def dkwX1_stake_0 : List UInt8 := [42, 27, 182, 0, 153, 154, 0, 5, 2, 172, 42, 42, 180, 0, 37, 27, 46, 5, 160, 0, 7, 8]
abbrev dktX1_stake_0 : List UInt8 := dkwX1_stake_0 ++ dktX1_stake_1
theorem dksX1_stake_0 : cX1_stake.data.toList.drop 0 = dktX1_stake_0 := by decide +kernel
theorem dksX1_stake_1 : cX1_stake.data.toList.drop 22 = dktX1_stake_1 := dk_seg dksX1_stake_0 22 rfl rfl
theorem dX1_stake_0 : decode cX1_stake 0 = .ok (.aload_n 0, 1) := dk_42 (dk_at dksX1_stake_0 0 rfl rfl)
theorem dX1_stake_1 : decode cX1_stake 1 = .ok (.iload_n 1, 1) := dk_27 (dk_at dksX1_stake_0 1 rfl rfl)
theorem dX1_stake_2 : decode cX1_stake 2 = .ok (.invokevirtual 153, 3) := dk_182 0 153 (dk_at dksX1_stake_0 2 rfl rfl)
theorem dX1_stake_5 : decode cX1_stake 5 = .ok (.ifCond .ne 5, 3) := dk_154 0 5 (dk_at dksX1_stake_0 5 rfl rfl)
theorem dX1_stake_8 : decode cX1_stake 8 = .ok (.iconst (-1), 1) := dk_2 (dk_at dksX1_stake_0 8 rfl rfl)
theorem dX1_stake_9 : decode cX1_stake 9 = .ok (.ireturn, 1) := dk_172 (dk_at dksX1_stake_0 9 rfl rfl)
theorem dX1_stake_10 : decode cX1_stake 10 = .ok (.aload_n 0, 1) := dk_42 (dk_at dksX1_stake_0 10 rfl rfl)
theorem dX1_stake_11 : decode cX1_stake 11 = .ok (.aload_n 0, 1) := dk_42 (dk_at dksX1_stake_0 11 rfl rfl)
theorem dX1_stake_12 : decode cX1_stake 12 = .ok (.getfield 37, 3) := dk_180 0 37 (dk_at dksX1_stake_0 12 rfl rfl)
theorem dX1_stake_15 : decode cX1_stake 15 = .ok (.iload_n 1, 1) := dk_27 (dk_at dksX1_stake_0 15 rfl rfl)
theorem dX1_stake_16 : decode cX1_stake 16 = .ok (.iaload, 1) := dk_46 (dk_at dksX1_stake_0 16 rfl rfl)
theorem dX1_stake_17 : decode cX1_stake 17 = .ok (.iconst 2, 1) := dk_5 (dk_at dksX1_stake_0 17 rfl rfl)
theorem dX1_stake_18 : decode cX1_stake 18 = .ok (.if_icmp .ne 7, 3) := dk_160 0 7 (dk_at dksX1_stake_0 18 rfl rfl)
theorem dX1_stake_21 : decode cX1_stake 21 = .ok (.iconst 5, 1) := dk_8 (dk_at dksX1_stake_0 21 rfl rfl)
theorem dX1_stake_22 : decode cX1_stake 22 = .ok (.goto 4, 3) := dk_167 0 4 (dk_at dksX1_stake_1 0 rfl rfl)
theorem dX1_stake_25 : decode cX1_stake 25 = .ok (.iconst 4, 1) := dk_7 (dk_at dksX1_stake_1 3 rfl rfl)
theorem dX1_stake_26 : decode cX1_stake 26 = .ok (.invokevirtual 214, 3) := dk_182 0 214 (dk_at dksX1_stake_1 4 rfl rfl)
theorem dX1_stake_29 : decode cX1_stake 29 = .ok (.aload_n 0, 1) := dk_42 (dk_at dksX1_stake_1 7 rfl rfl)
theorem dX1_stake_30 : decode cX1_stake 30 = .ok (.getfield 37, 3) := dk_180 0 37 (dk_at dksX1_stake_1 8 rfl rfl)
theorem dX1_stake_33 : decode cX1_stake 33 = .ok (.iload_n 1, 1) := dk_27 (dk_at dksX1_stake_1 11 rfl rfl)
theorem dX1_stake_34 : decode cX1_stake 34 = .ok (.iaload, 1) := dk_46 (dk_at dksX1_stake_1 12 rfl rfl)
theorem dX1_stake_35 : decode cX1_stake 35 = .ok (.iconst 2, 1) := dk_5 (dk_at dksX1_stake_1 13 rfl rfl)
theorem dX1_stake_36 : decode cX1_stake 36 = .ok (.if_icmp .ne 8, 3) := dk_160 0 8 (dk_at dksX1_stake_1 14 rfl rfl)
theorem dX1_stake_39 : decode cX1_stake 39 = .ok (.bipush 40, 2) := dk_16 40 (dk_at dksX1_stake_1 17 rfl rfl)
theorem dX1_stake_41 : decode cX1_stake 41 = .ok (.goto 4, 3) := dk_167 0 4 (dk_at dksX1_stake_1 19 rfl rfl)
theorem dX1_stake_44 : decode cX1_stake 44 = .ok (.iload_n 1, 1) := dk_27 (dk_at dksX1_stake_1 22 rfl rfl)
theorem dX1_stake_45 : decode cX1_stake 45 = .ok (.ireturn, 1) := dk_172 (dk_at dksX1_stake_1 23 rfl rfl)
abbrev cX1_as : ByteArray := prog_16_method_62_code
def yX1_as : MethodName := ⟨RX1, "as", "(II)I"⟩
def dkwX1_as_1 : List UInt8 := [16, 254, 172, 42, 180, 0, 37, 27, 46, 28, 161, 0, 7, 4, 167, 0, 8, 42, 5, 182, 0, 107, 172]
abbrev dktX1_as_1 : List UInt8 := dkwX1_as_1 ++ []
def dkwX1_as_0 : List UInt8 := [42, 3, 181, 0, 76, 42, 27, 182, 0, 153, 154, 0, 5, 2, 172, 28, 3, 5, 184, 0, 82, 154, 0, 6]
abbrev dktX1_as_0 : List UInt8 := dkwX1_as_0 ++ dktX1_as_1
theorem dksX1_as_0 : cX1_as.data.toList.drop 0 = dktX1_as_0 := by decide +kernel
theorem dksX1_as_1 : cX1_as.data.toList.drop 24 = dktX1_as_1 := dk_seg dksX1_as_0 24 rfl rfl
theorem dX1_as_0 : decode cX1_as 0 = .ok (.aload_n 0, 1) := dk_42 (dk_at dksX1_as_0 0 rfl rfl)
theorem dX1_as_1 : decode cX1_as 1 = .ok (.iconst 0, 1) := dk_3 (dk_at dksX1_as_0 1 rfl rfl)
theorem dX1_as_2 : decode cX1_as 2 = .ok (.putfield 76, 3) := dk_181 0 76 (dk_at dksX1_as_0 2 rfl rfl)
theorem dX1_as_5 : decode cX1_as 5 = .ok (.aload_n 0, 1) := dk_42 (dk_at dksX1_as_0 5 rfl rfl)
theorem dX1_as_6 : decode cX1_as 6 = .ok (.iload_n 1, 1) := dk_27 (dk_at dksX1_as_0 6 rfl rfl)
theorem dX1_as_7 : decode cX1_as 7 = .ok (.invokevirtual 153, 3) := dk_182 0 153 (dk_at dksX1_as_0 7 rfl rfl)
theorem dX1_as_10 : decode cX1_as 10 = .ok (.ifCond .ne 5, 3) := dk_154 0 5 (dk_at dksX1_as_0 10 rfl rfl)
theorem dX1_as_13 : decode cX1_as 13 = .ok (.iconst (-1), 1) := dk_2 (dk_at dksX1_as_0 13 rfl rfl)
theorem dX1_as_14 : decode cX1_as 14 = .ok (.ireturn, 1) := dk_172 (dk_at dksX1_as_0 14 rfl rfl)
theorem dX1_as_15 : decode cX1_as 15 = .ok (.iload_n 2, 1) := dk_28 (dk_at dksX1_as_0 15 rfl rfl)
theorem dX1_as_16 : decode cX1_as 16 = .ok (.iconst 0, 1) := dk_3 (dk_at dksX1_as_0 16 rfl rfl)
theorem dX1_as_17 : decode cX1_as 17 = .ok (.iconst 2, 1) := dk_5 (dk_at dksX1_as_0 17 rfl rfl)
theorem dX1_as_18 : decode cX1_as 18 = .ok (.invokestatic 82, 3) := dk_184 0 82 (dk_at dksX1_as_0 18 rfl rfl)
theorem dX1_as_21 : decode cX1_as 21 = .ok (.ifCond .ne 6, 3) := dk_154 0 6 (dk_at dksX1_as_0 21 rfl rfl)
theorem dX1_as_24 : decode cX1_as 24 = .ok (.bipush (-2), 2) := dk_16 254 (dk_at dksX1_as_1 0 rfl rfl)
theorem dX1_as_26 : decode cX1_as 26 = .ok (.ireturn, 1) := dk_172 (dk_at dksX1_as_1 2 rfl rfl)
theorem dX1_as_27 : decode cX1_as 27 = .ok (.aload_n 0, 1) := dk_42 (dk_at dksX1_as_1 3 rfl rfl)
theorem dX1_as_28 : decode cX1_as 28 = .ok (.getfield 37, 3) := dk_180 0 37 (dk_at dksX1_as_1 4 rfl rfl)
theorem dX1_as_31 : decode cX1_as 31 = .ok (.iload_n 1, 1) := dk_27 (dk_at dksX1_as_1 7 rfl rfl)
theorem dX1_as_32 : decode cX1_as 32 = .ok (.iaload, 1) := dk_46 (dk_at dksX1_as_1 8 rfl rfl)
theorem dX1_as_33 : decode cX1_as 33 = .ok (.iload_n 2, 1) := dk_28 (dk_at dksX1_as_1 9 rfl rfl)
theorem dX1_as_34 : decode cX1_as 34 = .ok (.if_icmp .lt 7, 3) := dk_161 0 7 (dk_at dksX1_as_1 10 rfl rfl)
theorem dX1_as_37 : decode cX1_as 37 = .ok (.iconst 1, 1) := dk_4 (dk_at dksX1_as_1 13 rfl rfl)
theorem dX1_as_38 : decode cX1_as 38 = .ok (.goto 8, 3) := dk_167 0 8 (dk_at dksX1_as_1 14 rfl rfl)
theorem dX1_as_41 : decode cX1_as 41 = .ok (.aload_n 0, 1) := dk_42 (dk_at dksX1_as_1 17 rfl rfl)
theorem dX1_as_42 : decode cX1_as 42 = .ok (.iconst 2, 1) := dk_5 (dk_at dksX1_as_1 18 rfl rfl)
theorem dX1_as_43 : decode cX1_as 43 = .ok (.invokevirtual 107, 3) := dk_182 0 107 (dk_at dksX1_as_1 19 rfl rfl)
theorem dX1_as_46 : decode cX1_as 46 = .ok (.ireturn, 1) := dk_172 (dk_at dksX1_as_1 22 rfl rfl)
abbrev cX1_trace : ByteArray := prog_16_method_63_code
def yX1_trace : MethodName := ⟨RX1, "trace", "()I"⟩
theorem dX1_trace_0 : decode cX1_trace 0 = .ok (.aload_n 0, 1) := by decide +kernel
theorem dX1_trace_1 : decode cX1_trace 1 = .ok (.getfield 211, 3) := by decide +kernel
theorem dX1_trace_4 : decode cX1_trace 4 = .ok (.ireturn, 1) := by decide +kernel
abbrev cX1_fault : ByteArray := prog_16_method_64_code
def yX1_fault : MethodName := ⟨RX1, "fault", "()I"⟩
theorem dX1_fault_0 : decode cX1_fault 0 = .ok (.aload_n 0, 1) := by decide +kernel
theorem dX1_fault_1 : decode cX1_fault 1 = .ok (.getfield 76, 3) := by decide +kernel
theorem dX1_fault_4 : decode cX1_fault 4 = .ok (.ireturn, 1) := by decide +kernel
abbrev cX1_many : ByteArray := prog_16_method_65_code
def yX1_many : MethodName := ⟨RX1, "many", "(I)I"⟩
def dkwX1_many_1 : List UInt8 := [5, 160, 0, 10, 42, 180, 0, 123, 167, 0, 5, 16, 254, 172]
abbrev dktX1_many_1 : List UInt8 := dkwX1_many_1 ++ []
def dkwX1_many_0 : List UInt8 := [27, 154, 0, 10, 42, 180, 0, 86, 167, 0, 29, 27, 4, 160, 0, 10, 42, 180, 0, 120, 167, 0, 17, 27]
abbrev dktX1_many_0 : List UInt8 := dkwX1_many_0 ++ dktX1_many_1
theorem dksX1_many_0 : cX1_many.data.toList.drop 0 = dktX1_many_0 := by decide +kernel
theorem dksX1_many_1 : cX1_many.data.toList.drop 24 = dktX1_many_1 := dk_seg dksX1_many_0 24 rfl rfl
theorem dX1_many_0 : decode cX1_many 0 = .ok (.iload_n 1, 1) := dk_27 (dk_at dksX1_many_0 0 rfl rfl)
theorem dX1_many_1 : decode cX1_many 1 = .ok (.ifCond .ne 10, 3) := dk_154 0 10 (dk_at dksX1_many_0 1 rfl rfl)
theorem dX1_many_4 : decode cX1_many 4 = .ok (.aload_n 0, 1) := dk_42 (dk_at dksX1_many_0 4 rfl rfl)
theorem dX1_many_5 : decode cX1_many 5 = .ok (.getfield 86, 3) := dk_180 0 86 (dk_at dksX1_many_0 5 rfl rfl)
theorem dX1_many_8 : decode cX1_many 8 = .ok (.goto 29, 3) := dk_167 0 29 (dk_at dksX1_many_0 8 rfl rfl)
theorem dX1_many_11 : decode cX1_many 11 = .ok (.iload_n 1, 1) := dk_27 (dk_at dksX1_many_0 11 rfl rfl)
theorem dX1_many_12 : decode cX1_many 12 = .ok (.iconst 1, 1) := dk_4 (dk_at dksX1_many_0 12 rfl rfl)
theorem dX1_many_13 : decode cX1_many 13 = .ok (.if_icmp .ne 10, 3) := dk_160 0 10 (dk_at dksX1_many_0 13 rfl rfl)
theorem dX1_many_16 : decode cX1_many 16 = .ok (.aload_n 0, 1) := dk_42 (dk_at dksX1_many_0 16 rfl rfl)
theorem dX1_many_17 : decode cX1_many 17 = .ok (.getfield 120, 3) := dk_180 0 120 (dk_at dksX1_many_0 17 rfl rfl)
theorem dX1_many_20 : decode cX1_many 20 = .ok (.goto 17, 3) := dk_167 0 17 (dk_at dksX1_many_0 20 rfl rfl)
theorem dX1_many_23 : decode cX1_many 23 = .ok (.iload_n 1, 1) := dk_27 (dk_at dksX1_many_0 23 rfl rfl)
theorem dX1_many_24 : decode cX1_many 24 = .ok (.iconst 2, 1) := dk_5 (dk_at dksX1_many_1 0 rfl rfl)
theorem dX1_many_25 : decode cX1_many 25 = .ok (.if_icmp .ne 10, 3) := dk_160 0 10 (dk_at dksX1_many_1 1 rfl rfl)
theorem dX1_many_28 : decode cX1_many 28 = .ok (.aload_n 0, 1) := dk_42 (dk_at dksX1_many_1 4 rfl rfl)
theorem dX1_many_29 : decode cX1_many 29 = .ok (.getfield 123, 3) := dk_180 0 123 (dk_at dksX1_many_1 5 rfl rfl)
theorem dX1_many_32 : decode cX1_many 32 = .ok (.goto 5, 3) := dk_167 0 5 (dk_at dksX1_many_1 8 rfl rfl)
theorem dX1_many_35 : decode cX1_many 35 = .ok (.bipush (-2), 2) := dk_16 254 (dk_at dksX1_many_1 11 rfl rfl)
theorem dX1_many_37 : decode cX1_many 37 = .ok (.ireturn, 1) := dk_172 (dk_at dksX1_many_1 13 rfl rfl)
theorem q54 : (Jvm.Cond.initialized "ThirdEbbModel") ∈ lw_all := lw_g (lw_at lw_m1 5 rfl) rfl
theorem q378 : (Jvm.Cond.selects "ThirdEbbModel" ({ cls := "java/lang/Object", name := "getClass", desc := "()Ljava/lang/Class;" } : Jvm.MethodName) ({ cls := "java/lang/Object", name := "getClass", desc := "()Ljava/lang/Class;" } : Jvm.MethodName)) ∈ lw_all := lw_g (lw_at lw_m2 89 rfl) rfl
theorem q1144 : (Jvm.Cond.instantiable "ThirdEbbModel" (31 : Nat)) ∈ lw_all := lw_g (lw_at lw_m5 135 rfl) rfl
theorem q1146 : (Jvm.Cond.instanceMethod ({ cls := "ThirdEbbModel", name := "<init>", desc := "()V" } : Jvm.MethodName)) ∈ lw_all := lw_g (lw_at lw_m5 137 rfl) rfl
theorem q1147 : (Jvm.Cond.code ({ cls := "ThirdEbbModel", name := "<init>", desc := "()V" } : Jvm.MethodName) prog_16_method_1_code (1 : Nat) (Option.none : Option Jvm.ClassFile.FieldType)) ∈ lw_all := lw_g (lw_at lw_m5 138 rfl) rfl
theorem q1148 : (Jvm.Cond.methodLink "ThirdEbbModel" (1 : Nat) ({ cls := "java/lang/Object", name := "<init>", desc := "()V" } : Jvm.MethodName)) ∈ lw_all := lw_g (lw_at lw_m5 139 rfl) rfl
theorem q1149 : (Jvm.Cond.fieldLink "ThirdEbbModel" (76 : Nat) "ThirdEbbModel" "fault" "I") ∈ lw_all := lw_g (lw_at lw_m5 140 rfl) rfl
theorem q1150 : (Jvm.Cond.fieldLink "ThirdEbbModel" (211 : Nat) "ThirdEbbModel" "trace" "I") ∈ lw_all := lw_g (lw_at lw_m5 141 rfl) rfl
theorem q1151 : (Jvm.Cond.fieldLink "ThirdEbbModel" (9 : Nat) "ThirdEbbModel" "sorts" "[I") ∈ lw_all := lw_g (lw_at lw_m5 142 rfl) rfl
theorem q1152 : (Jvm.Cond.fieldLink "ThirdEbbModel" (13 : Nat) "ThirdEbbModel" "sheetLong" "[I") ∈ lw_all := lw_g (lw_at lw_m5 143 rfl) rfl
theorem q1153 : (Jvm.Cond.fieldLink "ThirdEbbModel" (16 : Nat) "ThirdEbbModel" "cells" "[I") ∈ lw_all := lw_g (lw_at lw_m5 144 rfl) rfl
theorem q1154 : (Jvm.Cond.fieldLink "ThirdEbbModel" (86 : Nat) "ThirdEbbModel" "islands" "I") ∈ lw_all := lw_g (lw_at lw_m5 145 rfl) rfl
theorem q1155 : (Jvm.Cond.fieldLink "ThirdEbbModel" (120 : Nat) "ThirdEbbModel" "moons" "I") ∈ lw_all := lw_g (lw_at lw_m5 146 rfl) rfl
theorem q1156 : (Jvm.Cond.fieldLink "ThirdEbbModel" (19 : Nat) "ThirdEbbModel" "month" "[I") ∈ lw_all := lw_g (lw_at lw_m5 147 rfl) rfl
theorem q1157 : (Jvm.Cond.fieldLink "ThirdEbbModel" (22 : Nat) "ThirdEbbModel" "pull" "[I") ∈ lw_all := lw_g (lw_at lw_m5 148 rfl) rfl
theorem q1158 : (Jvm.Cond.fieldLink "ThirdEbbModel" (25 : Nat) "ThirdEbbModel" "age" "[I") ∈ lw_all := lw_g (lw_at lw_m5 149 rfl) rfl
theorem q1159 : (Jvm.Cond.fieldLink "ThirdEbbModel" (89 : Nat) "ThirdEbbModel" "at" "I") ∈ lw_all := lw_g (lw_at lw_m5 150 rfl) rfl
theorem q1160 : (Jvm.Cond.fieldLink "ThirdEbbModel" (114 : Nat) "ThirdEbbModel" "readIslands" "I") ∈ lw_all := lw_g (lw_at lw_m5 151 rfl) rfl
theorem q1161 : (Jvm.Cond.fieldLink "ThirdEbbModel" (117 : Nat) "ThirdEbbModel" "readMoons" "I") ∈ lw_all := lw_g (lw_at lw_m5 152 rfl) rfl
theorem q1162 : (Jvm.Cond.fieldLink "ThirdEbbModel" (28 : Nat) "ThirdEbbModel" "readMonth" "[I") ∈ lw_all := lw_g (lw_at lw_m5 153 rfl) rfl
theorem q1163 : (Jvm.Cond.fieldLink "ThirdEbbModel" (31 : Nat) "ThirdEbbModel" "readPull" "[I") ∈ lw_all := lw_g (lw_at lw_m5 154 rfl) rfl
theorem q1164 : (Jvm.Cond.fieldLink "ThirdEbbModel" (34 : Nat) "ThirdEbbModel" "readAge" "[I") ∈ lw_all := lw_g (lw_at lw_m5 155 rfl) rfl
theorem q1165 : (Jvm.Cond.fieldLink "ThirdEbbModel" (123 : Nat) "ThirdEbbModel" "roads" "I") ∈ lw_all := lw_g (lw_at lw_m5 156 rfl) rfl
theorem q1166 : (Jvm.Cond.fieldLink "ThirdEbbModel" (37 : Nat) "ThirdEbbModel" "kind" "[I") ∈ lw_all := lw_g (lw_at lw_m5 157 rfl) rfl
theorem q1167 : (Jvm.Cond.fieldLink "ThirdEbbModel" (40 : Nat) "ThirdEbbModel" "one" "[I") ∈ lw_all := lw_g (lw_at lw_m5 158 rfl) rfl
theorem q1168 : (Jvm.Cond.fieldLink "ThirdEbbModel" (43 : Nat) "ThirdEbbModel" "other" "[I") ∈ lw_all := lw_g (lw_at lw_m5 159 rfl) rfl
theorem q1169 : (Jvm.Cond.fieldLink "ThirdEbbModel" (46 : Nat) "ThirdEbbModel" "bed" "[I") ∈ lw_all := lw_g (lw_at lw_m5 160 rfl) rfl
theorem q1170 : (Jvm.Cond.fieldLink "ThirdEbbModel" (49 : Nat) "ThirdEbbModel" "length" "[I") ∈ lw_all := lw_g (lw_at lw_m5 161 rfl) rfl
theorem q1171 : (Jvm.Cond.fieldLink "ThirdEbbModel" (52 : Nat) "ThirdEbbModel" "mended" "[I") ∈ lw_all := lw_g (lw_at lw_m5 162 rfl) rfl
theorem q1172 : (Jvm.Cond.fieldLink "ThirdEbbModel" (55 : Nat) "ThirdEbbModel" "nextAt" "[I") ∈ lw_all := lw_g (lw_at lw_m5 163 rfl) rfl
theorem q1173 : (Jvm.Cond.fieldLink "ThirdEbbModel" (58 : Nat) "ThirdEbbModel" "takes" "[I") ∈ lw_all := lw_g (lw_at lw_m5 164 rfl) rfl
theorem q1174 : (Jvm.Cond.fieldLink "ThirdEbbModel" (61 : Nat) "ThirdEbbModel" "there" "[I") ∈ lw_all := lw_g (lw_at lw_m5 165 rfl) rfl
theorem q1175 : (Jvm.Cond.fieldLink "ThirdEbbModel" (185 : Nat) "ThirdEbbModel" "wayLong" "I") ∈ lw_all := lw_g (lw_at lw_m5 166 rfl) rfl
theorem q1176 : (Jvm.Cond.fieldLink "ThirdEbbModel" (64 : Nat) "ThirdEbbModel" "wayRoads" "[I") ∈ lw_all := lw_g (lw_at lw_m5 167 rfl) rfl
theorem q1177 : (Jvm.Cond.fieldLink "ThirdEbbModel" (67 : Nat) "ThirdEbbModel" "order" "[I") ∈ lw_all := lw_g (lw_at lw_m5 168 rfl) rfl
theorem q1178 : (Jvm.Cond.fieldLink "ThirdEbbModel" (70 : Nat) "ThirdEbbModel" "bestOrder" "[I") ∈ lw_all := lw_g (lw_at lw_m5 169 rfl) rfl
theorem q1179 : (Jvm.Cond.fieldLink "ThirdEbbModel" (73 : Nat) "ThirdEbbModel" "met" "[I") ∈ lw_all := lw_g (lw_at lw_m5 170 rfl) rfl
theorem q1180 : (Jvm.Cond.lays "ThirdEbbModel" "ThirdEbbModel" "fault" "I") ∈ lw_all := lw_g (lw_at lw_m5 171 rfl) rfl
theorem q1181 : (Jvm.Cond.soleField "ThirdEbbModel" "fault") ∈ lw_all := lw_g (lw_at lw_m5 172 rfl) rfl
theorem q1182 : (Jvm.Cond.lays "ThirdEbbModel" "ThirdEbbModel" "trace" "I") ∈ lw_all := lw_g (lw_at lw_m5 173 rfl) rfl
theorem q1183 : (Jvm.Cond.soleField "ThirdEbbModel" "trace") ∈ lw_all := lw_g (lw_at lw_m5 174 rfl) rfl
theorem q1184 : (Jvm.Cond.laysFinal "ThirdEbbModel" "ThirdEbbModel" "sorts" "[I") ∈ lw_all := lw_g (lw_at lw_m5 175 rfl) rfl
theorem q1185 : (Jvm.Cond.soleField "ThirdEbbModel" "sorts") ∈ lw_all := lw_g (lw_at lw_m5 176 rfl) rfl
theorem q1186 : (Jvm.Cond.laysFinal "ThirdEbbModel" "ThirdEbbModel" "sheetLong" "[I") ∈ lw_all := lw_g (lw_at lw_m5 177 rfl) rfl
theorem q1187 : (Jvm.Cond.soleField "ThirdEbbModel" "sheetLong") ∈ lw_all := lw_g (lw_at lw_m5 178 rfl) rfl
theorem q1188 : (Jvm.Cond.laysFinal "ThirdEbbModel" "ThirdEbbModel" "cells" "[I") ∈ lw_all := lw_g (lw_at lw_m5 179 rfl) rfl
theorem q1189 : (Jvm.Cond.soleField "ThirdEbbModel" "cells") ∈ lw_all := lw_g (lw_at lw_m5 180 rfl) rfl
theorem q1190 : (Jvm.Cond.lays "ThirdEbbModel" "ThirdEbbModel" "islands" "I") ∈ lw_all := lw_g (lw_at lw_m5 181 rfl) rfl
theorem q1191 : (Jvm.Cond.soleField "ThirdEbbModel" "islands") ∈ lw_all := lw_g (lw_at lw_m5 182 rfl) rfl
theorem q1192 : (Jvm.Cond.lays "ThirdEbbModel" "ThirdEbbModel" "moons" "I") ∈ lw_all := lw_g (lw_at lw_m5 183 rfl) rfl
theorem q1193 : (Jvm.Cond.soleField "ThirdEbbModel" "moons") ∈ lw_all := lw_g (lw_at lw_m5 184 rfl) rfl
theorem q1194 : (Jvm.Cond.laysFinal "ThirdEbbModel" "ThirdEbbModel" "month" "[I") ∈ lw_all := lw_g (lw_at lw_m5 185 rfl) rfl
theorem q1195 : (Jvm.Cond.soleField "ThirdEbbModel" "month") ∈ lw_all := lw_g (lw_at lw_m5 186 rfl) rfl
theorem q1196 : (Jvm.Cond.laysFinal "ThirdEbbModel" "ThirdEbbModel" "pull" "[I") ∈ lw_all := lw_g (lw_at lw_m5 187 rfl) rfl
theorem q1197 : (Jvm.Cond.soleField "ThirdEbbModel" "pull") ∈ lw_all := lw_g (lw_at lw_m5 188 rfl) rfl
theorem q1198 : (Jvm.Cond.laysFinal "ThirdEbbModel" "ThirdEbbModel" "age" "[I") ∈ lw_all := lw_g (lw_at lw_m5 189 rfl) rfl
theorem q1199 : (Jvm.Cond.soleField "ThirdEbbModel" "age") ∈ lw_all := lw_g (lw_at lw_m5 190 rfl) rfl
theorem q1200 : (Jvm.Cond.lays "ThirdEbbModel" "ThirdEbbModel" "at" "I") ∈ lw_all := lw_g (lw_at lw_m5 191 rfl) rfl
theorem q1201 : (Jvm.Cond.soleField "ThirdEbbModel" "at") ∈ lw_all := lw_g (lw_at lw_m5 192 rfl) rfl
theorem q1202 : (Jvm.Cond.lays "ThirdEbbModel" "ThirdEbbModel" "readIslands" "I") ∈ lw_all := lw_g (lw_at lw_m5 193 rfl) rfl
theorem q1203 : (Jvm.Cond.soleField "ThirdEbbModel" "readIslands") ∈ lw_all := lw_g (lw_at lw_m5 194 rfl) rfl
theorem q1204 : (Jvm.Cond.lays "ThirdEbbModel" "ThirdEbbModel" "readMoons" "I") ∈ lw_all := lw_g (lw_at lw_m5 195 rfl) rfl
theorem q1205 : (Jvm.Cond.soleField "ThirdEbbModel" "readMoons") ∈ lw_all := lw_g (lw_at lw_m5 196 rfl) rfl
theorem q1206 : (Jvm.Cond.laysFinal "ThirdEbbModel" "ThirdEbbModel" "readMonth" "[I") ∈ lw_all := lw_g (lw_at lw_m5 197 rfl) rfl
theorem q1207 : (Jvm.Cond.soleField "ThirdEbbModel" "readMonth") ∈ lw_all := lw_g (lw_at lw_m5 198 rfl) rfl
theorem q1208 : (Jvm.Cond.laysFinal "ThirdEbbModel" "ThirdEbbModel" "readPull" "[I") ∈ lw_all := lw_g (lw_at lw_m5 199 rfl) rfl
theorem q1209 : (Jvm.Cond.soleField "ThirdEbbModel" "readPull") ∈ lw_all := lw_g (lw_at lw_m5 200 rfl) rfl
theorem q1210 : (Jvm.Cond.laysFinal "ThirdEbbModel" "ThirdEbbModel" "readAge" "[I") ∈ lw_all := lw_g (lw_at lw_m5 201 rfl) rfl
theorem q1211 : (Jvm.Cond.soleField "ThirdEbbModel" "readAge") ∈ lw_all := lw_g (lw_at lw_m5 202 rfl) rfl
theorem q1212 : (Jvm.Cond.lays "ThirdEbbModel" "ThirdEbbModel" "roads" "I") ∈ lw_all := lw_g (lw_at lw_m5 203 rfl) rfl
theorem q1213 : (Jvm.Cond.soleField "ThirdEbbModel" "roads") ∈ lw_all := lw_g (lw_at lw_m5 204 rfl) rfl
theorem q1214 : (Jvm.Cond.laysFinal "ThirdEbbModel" "ThirdEbbModel" "kind" "[I") ∈ lw_all := lw_g (lw_at lw_m5 205 rfl) rfl
theorem q1215 : (Jvm.Cond.soleField "ThirdEbbModel" "kind") ∈ lw_all := lw_g (lw_at lw_m5 206 rfl) rfl
theorem q1216 : (Jvm.Cond.laysFinal "ThirdEbbModel" "ThirdEbbModel" "one" "[I") ∈ lw_all := lw_g (lw_at lw_m5 207 rfl) rfl
theorem q1217 : (Jvm.Cond.soleField "ThirdEbbModel" "one") ∈ lw_all := lw_g (lw_at lw_m5 208 rfl) rfl
theorem q1218 : (Jvm.Cond.laysFinal "ThirdEbbModel" "ThirdEbbModel" "other" "[I") ∈ lw_all := lw_g (lw_at lw_m5 209 rfl) rfl
theorem q1219 : (Jvm.Cond.soleField "ThirdEbbModel" "other") ∈ lw_all := lw_g (lw_at lw_m5 210 rfl) rfl
theorem q1220 : (Jvm.Cond.laysFinal "ThirdEbbModel" "ThirdEbbModel" "bed" "[I") ∈ lw_all := lw_g (lw_at lw_m5 211 rfl) rfl
theorem q1221 : (Jvm.Cond.soleField "ThirdEbbModel" "bed") ∈ lw_all := lw_g (lw_at lw_m5 212 rfl) rfl
theorem q1222 : (Jvm.Cond.laysFinal "ThirdEbbModel" "ThirdEbbModel" "length" "[I") ∈ lw_all := lw_g (lw_at lw_m5 213 rfl) rfl
theorem q1223 : (Jvm.Cond.soleField "ThirdEbbModel" "length") ∈ lw_all := lw_g (lw_at lw_m5 214 rfl) rfl
theorem q1224 : (Jvm.Cond.laysFinal "ThirdEbbModel" "ThirdEbbModel" "mended" "[I") ∈ lw_all := lw_g (lw_at lw_m5 215 rfl) rfl
theorem q1225 : (Jvm.Cond.soleField "ThirdEbbModel" "mended") ∈ lw_all := lw_g (lw_at lw_m5 216 rfl) rfl
theorem q1226 : (Jvm.Cond.laysFinal "ThirdEbbModel" "ThirdEbbModel" "nextAt" "[I") ∈ lw_all := lw_g (lw_at lw_m5 217 rfl) rfl
theorem q1227 : (Jvm.Cond.soleField "ThirdEbbModel" "nextAt") ∈ lw_all := lw_g (lw_at lw_m5 218 rfl) rfl
theorem q1228 : (Jvm.Cond.laysFinal "ThirdEbbModel" "ThirdEbbModel" "takes" "[I") ∈ lw_all := lw_g (lw_at lw_m5 219 rfl) rfl
theorem q1229 : (Jvm.Cond.soleField "ThirdEbbModel" "takes") ∈ lw_all := lw_g (lw_at lw_m5 220 rfl) rfl
theorem q1230 : (Jvm.Cond.laysFinal "ThirdEbbModel" "ThirdEbbModel" "there" "[I") ∈ lw_all := lw_g (lw_at lw_m5 221 rfl) rfl
theorem q1231 : (Jvm.Cond.soleField "ThirdEbbModel" "there") ∈ lw_all := lw_g (lw_at lw_m5 222 rfl) rfl
theorem q1232 : (Jvm.Cond.lays "ThirdEbbModel" "ThirdEbbModel" "wayLong" "I") ∈ lw_all := lw_g (lw_at lw_m5 223 rfl) rfl
theorem q1233 : (Jvm.Cond.soleField "ThirdEbbModel" "wayLong") ∈ lw_all := lw_g (lw_at lw_m5 224 rfl) rfl
theorem q1234 : (Jvm.Cond.laysFinal "ThirdEbbModel" "ThirdEbbModel" "wayRoads" "[I") ∈ lw_all := lw_g (lw_at lw_m5 225 rfl) rfl
theorem q1235 : (Jvm.Cond.soleField "ThirdEbbModel" "wayRoads") ∈ lw_all := lw_g (lw_at lw_m5 226 rfl) rfl
theorem q1236 : (Jvm.Cond.laysFinal "ThirdEbbModel" "ThirdEbbModel" "order" "[I") ∈ lw_all := lw_g (lw_at lw_m5 227 rfl) rfl
theorem q1237 : (Jvm.Cond.soleField "ThirdEbbModel" "order") ∈ lw_all := lw_g (lw_at lw_m5 228 rfl) rfl
theorem q1238 : (Jvm.Cond.laysFinal "ThirdEbbModel" "ThirdEbbModel" "bestOrder" "[I") ∈ lw_all := lw_g (lw_at lw_m5 229 rfl) rfl
theorem q1239 : (Jvm.Cond.soleField "ThirdEbbModel" "bestOrder") ∈ lw_all := lw_g (lw_at lw_m5 230 rfl) rfl
theorem q1240 : (Jvm.Cond.laysFinal "ThirdEbbModel" "ThirdEbbModel" "met" "[I") ∈ lw_all := lw_g (lw_at lw_m5 231 rfl) rfl
theorem q1241 : (Jvm.Cond.soleField "ThirdEbbModel" "met") ∈ lw_all := lw_g (lw_at lw_m5 232 rfl) rfl
theorem q1242 : (Jvm.Cond.superclass "ThirdEbbModel" "java/lang/Object") ∈ lw_all := lw_g (lw_at lw_m5 233 rfl) rfl
theorem q1244 : (Jvm.Cond.instanceMethod ({ cls := "ThirdEbbModel", name := "sea", desc := "(IIII)I" } : Jvm.MethodName)) ∈ lw_all := lw_g (lw_at lw_m5 235 rfl) rfl
theorem q1245 : (Jvm.Cond.selects "ThirdEbbModel" ({ cls := "ThirdEbbModel", name := "sea", desc := "(IIII)I" } : Jvm.MethodName) ({ cls := "ThirdEbbModel", name := "sea", desc := "(IIII)I" } : Jvm.MethodName)) ∈ lw_all := lw_g (lw_at lw_m5 236 rfl) rfl
theorem q1246 : (Jvm.Cond.code ({ cls := "ThirdEbbModel", name := "sea", desc := "(IIII)I" } : Jvm.MethodName) prog_16_method_16_code (8 : Nat) (Option.some Jvm.ClassFile.FieldType.int)) ∈ lw_all := lw_g (lw_at lw_m5 237 rfl) rfl
theorem q1247 : (Jvm.Cond.methodLink "ThirdEbbModel" (96 : Nat) ({ cls := "ThirdEbbModel", name := "isSheet", desc := "(I)Z" } : Jvm.MethodName)) ∈ lw_all := lw_g (lw_at lw_m5 238 rfl) rfl
theorem q1248 : (Jvm.Cond.static ({ cls := "ThirdEbbModel", name := "isSheet", desc := "(I)Z" } : Jvm.MethodName)) ∈ lw_all := lw_g (lw_at lw_m5 239 rfl) rfl
theorem q1249 : (Jvm.Cond.code ({ cls := "ThirdEbbModel", name := "isSheet", desc := "(I)Z" } : Jvm.MethodName) prog_16_method_7_code (1 : Nat) (Option.some Jvm.ClassFile.FieldType.boolean)) ∈ lw_all := lw_g (lw_at lw_m6 0 rfl) rfl
theorem q1250 : (Jvm.Cond.methodLink "ThirdEbbModel" (82 : Nat) ({ cls := "ThirdEbbModel", name := "within", desc := "(III)Z" } : Jvm.MethodName)) ∈ lw_all := lw_g (lw_at lw_m6 1 rfl) rfl
theorem q1251 : (Jvm.Cond.static ({ cls := "ThirdEbbModel", name := "within", desc := "(III)Z" } : Jvm.MethodName)) ∈ lw_all := lw_g (lw_at lw_m6 2 rfl) rfl
theorem q1252 : (Jvm.Cond.code ({ cls := "ThirdEbbModel", name := "within", desc := "(III)Z" } : Jvm.MethodName) prog_16_method_5_code (3 : Nat) (Option.some Jvm.ClassFile.FieldType.boolean)) ∈ lw_all := lw_g (lw_at lw_m6 3 rfl) rfl
theorem q1253 : (Jvm.Cond.methodLink "ThirdEbbModel" (100 : Nat) ({ cls := "ThirdEbbModel", name := "isSort", desc := "(I)Z" } : Jvm.MethodName)) ∈ lw_all := lw_g (lw_at lw_m6 4 rfl) rfl
theorem q1254 : (Jvm.Cond.static ({ cls := "ThirdEbbModel", name := "isSort", desc := "(I)Z" } : Jvm.MethodName)) ∈ lw_all := lw_g (lw_at lw_m6 5 rfl) rfl
theorem q1255 : (Jvm.Cond.code ({ cls := "ThirdEbbModel", name := "isSort", desc := "(I)Z" } : Jvm.MethodName) prog_16_method_8_code (1 : Nat) (Option.some Jvm.ClassFile.FieldType.boolean)) ∈ lw_all := lw_g (lw_at lw_m6 6 rfl) rfl
theorem q1256 : (Jvm.Cond.methodLink "ThirdEbbModel" (103 : Nat) ({ cls := "ThirdEbbModel", name := "against", desc := "(IIII)I" } : Jvm.MethodName)) ∈ lw_all := lw_g (lw_at lw_m6 7 rfl) rfl
theorem q1257 : (Jvm.Cond.privateMethod ({ cls := "ThirdEbbModel", name := "against", desc := "(IIII)I" } : Jvm.MethodName)) ∈ lw_tbl := lw_at lw_m6 8 rfl
theorem q1258 : (Jvm.Cond.instanceMethod ({ cls := "ThirdEbbModel", name := "against", desc := "(IIII)I" } : Jvm.MethodName)) ∈ lw_all := lw_g (lw_at lw_m6 9 rfl) rfl
theorem q1259 : (Jvm.Cond.code ({ cls := "ThirdEbbModel", name := "against", desc := "(IIII)I" } : Jvm.MethodName) prog_16_method_9_code (5 : Nat) (Option.some Jvm.ClassFile.FieldType.int)) ∈ lw_all := lw_g (lw_at lw_m6 10 rfl) rfl
theorem q1260 : (Jvm.Cond.methodLink "ThirdEbbModel" (107 : Nat) ({ cls := "ThirdEbbModel", name := "fails", desc := "(I)I" } : Jvm.MethodName)) ∈ lw_all := lw_g (lw_at lw_m6 11 rfl) rfl
theorem q1261 : (Jvm.Cond.privateMethod ({ cls := "ThirdEbbModel", name := "fails", desc := "(I)I" } : Jvm.MethodName)) ∈ lw_tbl := lw_at lw_m6 12 rfl
theorem q1262 : (Jvm.Cond.instanceMethod ({ cls := "ThirdEbbModel", name := "fails", desc := "(I)I" } : Jvm.MethodName)) ∈ lw_all := lw_g (lw_at lw_m6 13 rfl) rfl
theorem q1263 : (Jvm.Cond.code ({ cls := "ThirdEbbModel", name := "fails", desc := "(I)I" } : Jvm.MethodName) prog_16_method_3_code (2 : Nat) (Option.some Jvm.ClassFile.FieldType.int)) ∈ lw_all := lw_g (lw_at lw_m6 14 rfl) rfl
theorem q1264 : (Jvm.Cond.methodLink "ThirdEbbModel" (111 : Nat) ({ cls := "ThirdEbbModel", name := "readSea", desc := "(I)Z" } : Jvm.MethodName)) ∈ lw_all := lw_g (lw_at lw_m6 15 rfl) rfl
theorem q1265 : (Jvm.Cond.privateMethod ({ cls := "ThirdEbbModel", name := "readSea", desc := "(I)Z" } : Jvm.MethodName)) ∈ lw_tbl := lw_at lw_m6 16 rfl
theorem q1266 : (Jvm.Cond.instanceMethod ({ cls := "ThirdEbbModel", name := "readSea", desc := "(I)Z" } : Jvm.MethodName)) ∈ lw_all := lw_g (lw_at lw_m6 17 rfl) rfl
theorem q1267 : (Jvm.Cond.code ({ cls := "ThirdEbbModel", name := "readSea", desc := "(I)Z" } : Jvm.MethodName) prog_16_method_17_code (2 : Nat) (Option.some Jvm.ClassFile.FieldType.boolean)) ∈ lw_all := lw_g (lw_at lw_m6 18 rfl) rfl
theorem q1268 : (Jvm.Cond.methodLink "ThirdEbbModel" (126 : Nat) ({ cls := "ThirdEbbModel", name := "isCode", desc := "(II)Z" } : Jvm.MethodName)) ∈ lw_all := lw_g (lw_at lw_m6 19 rfl) rfl
theorem q1269 : (Jvm.Cond.privateMethod ({ cls := "ThirdEbbModel", name := "isCode", desc := "(II)Z" } : Jvm.MethodName)) ∈ lw_tbl := lw_at lw_m6 20 rfl
theorem q1270 : (Jvm.Cond.instanceMethod ({ cls := "ThirdEbbModel", name := "isCode", desc := "(II)Z" } : Jvm.MethodName)) ∈ lw_all := lw_g (lw_at lw_m6 21 rfl) rfl
theorem q1271 : (Jvm.Cond.code ({ cls := "ThirdEbbModel", name := "isCode", desc := "(II)Z" } : Jvm.MethodName) prog_16_method_14_code (3 : Nat) (Option.some Jvm.ClassFile.FieldType.boolean)) ∈ lw_all := lw_g (lw_at lw_m6 22 rfl) rfl
theorem q1272 : (Jvm.Cond.methodLink "ThirdEbbModel" (92 : Nat) ({ cls := "ThirdEbbModel", name := "digitAt", desc := "(II)I" } : Jvm.MethodName)) ∈ lw_all := lw_g (lw_at lw_m6 23 rfl) rfl
theorem q1273 : (Jvm.Cond.privateMethod ({ cls := "ThirdEbbModel", name := "digitAt", desc := "(II)I" } : Jvm.MethodName)) ∈ lw_tbl := lw_at lw_m6 24 rfl
theorem q1274 : (Jvm.Cond.instanceMethod ({ cls := "ThirdEbbModel", name := "digitAt", desc := "(II)I" } : Jvm.MethodName)) ∈ lw_all := lw_g (lw_at lw_m6 25 rfl) rfl
theorem q1275 : (Jvm.Cond.code ({ cls := "ThirdEbbModel", name := "digitAt", desc := "(II)I" } : Jvm.MethodName) prog_16_method_13_code (3 : Nat) (Option.some Jvm.ClassFile.FieldType.int)) ∈ lw_all := lw_g (lw_at lw_m6 26 rfl) rfl
theorem q1276 : (Jvm.Cond.methodLink "ThirdEbbModel" (130 : Nat) ({ cls := "ThirdEbbModel", name := "readMoon", desc := "(I)Z" } : Jvm.MethodName)) ∈ lw_all := lw_g (lw_at lw_m6 27 rfl) rfl
theorem q1277 : (Jvm.Cond.privateMethod ({ cls := "ThirdEbbModel", name := "readMoon", desc := "(I)Z" } : Jvm.MethodName)) ∈ lw_tbl := lw_at lw_m6 28 rfl
theorem q1278 : (Jvm.Cond.instanceMethod ({ cls := "ThirdEbbModel", name := "readMoon", desc := "(I)Z" } : Jvm.MethodName)) ∈ lw_all := lw_g (lw_at lw_m6 29 rfl) rfl
theorem q1279 : (Jvm.Cond.code ({ cls := "ThirdEbbModel", name := "readMoon", desc := "(I)Z" } : Jvm.MethodName) prog_16_method_18_code (3 : Nat) (Option.some Jvm.ClassFile.FieldType.boolean)) ∈ lw_all := lw_g (lw_at lw_m6 30 rfl) rfl
theorem q1280 : (Jvm.Cond.methodLink "ThirdEbbModel" (133 : Nat) ({ cls := "ThirdEbbModel", name := "twoDigits", desc := "(III)I" } : Jvm.MethodName)) ∈ lw_all := lw_g (lw_at lw_m6 31 rfl) rfl
theorem q1281 : (Jvm.Cond.privateMethod ({ cls := "ThirdEbbModel", name := "twoDigits", desc := "(III)I" } : Jvm.MethodName)) ∈ lw_tbl := lw_at lw_m6 32 rfl
theorem q1282 : (Jvm.Cond.instanceMethod ({ cls := "ThirdEbbModel", name := "twoDigits", desc := "(III)I" } : Jvm.MethodName)) ∈ lw_all := lw_g (lw_at lw_m6 33 rfl) rfl
theorem q1283 : (Jvm.Cond.code ({ cls := "ThirdEbbModel", name := "twoDigits", desc := "(III)I" } : Jvm.MethodName) prog_16_method_15_code (7 : Nat) (Option.some Jvm.ClassFile.FieldType.int)) ∈ lw_all := lw_g (lw_at lw_m6 34 rfl) rfl
theorem q1285 : (Jvm.Cond.instanceMethod ({ cls := "ThirdEbbModel", name := "ofMoon", desc := "(II)I" } : Jvm.MethodName)) ∈ lw_all := lw_g (lw_at lw_m6 36 rfl) rfl
theorem q1286 : (Jvm.Cond.selects "ThirdEbbModel" ({ cls := "ThirdEbbModel", name := "ofMoon", desc := "(II)I" } : Jvm.MethodName) ({ cls := "ThirdEbbModel", name := "ofMoon", desc := "(II)I" } : Jvm.MethodName)) ∈ lw_all := lw_g (lw_at lw_m6 37 rfl) rfl
theorem q1287 : (Jvm.Cond.code ({ cls := "ThirdEbbModel", name := "ofMoon", desc := "(II)I" } : Jvm.MethodName) prog_16_method_19_code (3 : Nat) (Option.some Jvm.ClassFile.FieldType.int)) ∈ lw_all := lw_g (lw_at lw_m6 38 rfl) rfl
theorem q1289 : (Jvm.Cond.instanceMethod ({ cls := "ThirdEbbModel", name := "phase", desc := "(II)I" } : Jvm.MethodName)) ∈ lw_all := lw_g (lw_at lw_m6 40 rfl) rfl
theorem q1290 : (Jvm.Cond.selects "ThirdEbbModel" ({ cls := "ThirdEbbModel", name := "phase", desc := "(II)I" } : Jvm.MethodName) ({ cls := "ThirdEbbModel", name := "phase", desc := "(II)I" } : Jvm.MethodName)) ∈ lw_all := lw_g (lw_at lw_m6 41 rfl) rfl
theorem q1291 : (Jvm.Cond.code ({ cls := "ThirdEbbModel", name := "phase", desc := "(II)I" } : Jvm.MethodName) prog_16_method_20_code (3 : Nat) (Option.some Jvm.ClassFile.FieldType.int)) ∈ lw_all := lw_g (lw_at lw_m6 42 rfl) rfl
theorem q1292 : (Jvm.Cond.methodLink "ThirdEbbModel" (137 : Nat) ({ cls := "ThirdEbbModel", name := "isHour", desc := "(I)Z" } : Jvm.MethodName)) ∈ lw_all := lw_g (lw_at lw_m6 43 rfl) rfl
theorem q1293 : (Jvm.Cond.static ({ cls := "ThirdEbbModel", name := "isHour", desc := "(I)Z" } : Jvm.MethodName)) ∈ lw_all := lw_g (lw_at lw_m6 44 rfl) rfl
theorem q1294 : (Jvm.Cond.code ({ cls := "ThirdEbbModel", name := "isHour", desc := "(I)Z" } : Jvm.MethodName) prog_16_method_12_code (1 : Nat) (Option.some Jvm.ClassFile.FieldType.boolean)) ∈ lw_all := lw_g (lw_at lw_m6 45 rfl) rfl
theorem q1296 : (Jvm.Cond.instanceMethod ({ cls := "ThirdEbbModel", name := "level", desc := "(I)I" } : Jvm.MethodName)) ∈ lw_all := lw_g (lw_at lw_m6 47 rfl) rfl
theorem q1297 : (Jvm.Cond.selects "ThirdEbbModel" ({ cls := "ThirdEbbModel", name := "level", desc := "(I)I" } : Jvm.MethodName) ({ cls := "ThirdEbbModel", name := "level", desc := "(I)I" } : Jvm.MethodName)) ∈ lw_all := lw_g (lw_at lw_m6 48 rfl) rfl
theorem q1298 : (Jvm.Cond.code ({ cls := "ThirdEbbModel", name := "level", desc := "(I)I" } : Jvm.MethodName) prog_16_method_22_code (2 : Nat) (Option.some Jvm.ClassFile.FieldType.int)) ∈ lw_all := lw_g (lw_at lw_m6 49 rfl) rfl
theorem q1299 : (Jvm.Cond.methodLink "ThirdEbbModel" (140 : Nat) ({ cls := "ThirdEbbModel", name := "isSea", desc := "()Z" } : Jvm.MethodName)) ∈ lw_all := lw_g (lw_at lw_m6 50 rfl) rfl
theorem q1300 : (Jvm.Cond.privateMethod ({ cls := "ThirdEbbModel", name := "isSea", desc := "()Z" } : Jvm.MethodName)) ∈ lw_tbl := lw_at lw_m6 51 rfl
theorem q1301 : (Jvm.Cond.instanceMethod ({ cls := "ThirdEbbModel", name := "isSea", desc := "()Z" } : Jvm.MethodName)) ∈ lw_all := lw_g (lw_at lw_m6 52 rfl) rfl
theorem q1302 : (Jvm.Cond.code ({ cls := "ThirdEbbModel", name := "isSea", desc := "()Z" } : Jvm.MethodName) prog_16_method_10_code (1 : Nat) (Option.some Jvm.ClassFile.FieldType.boolean)) ∈ lw_all := lw_g (lw_at lw_m6 53 rfl) rfl
theorem q1303 : (Jvm.Cond.methodLink "ThirdEbbModel" (144 : Nat) ({ cls := "ThirdEbbModel", name := "levelAt", desc := "(I)I" } : Jvm.MethodName)) ∈ lw_all := lw_g (lw_at lw_m6 54 rfl) rfl
theorem q1304 : (Jvm.Cond.privateMethod ({ cls := "ThirdEbbModel", name := "levelAt", desc := "(I)I" } : Jvm.MethodName)) ∈ lw_tbl := lw_at lw_m6 55 rfl
theorem q1305 : (Jvm.Cond.instanceMethod ({ cls := "ThirdEbbModel", name := "levelAt", desc := "(I)I" } : Jvm.MethodName)) ∈ lw_all := lw_g (lw_at lw_m6 56 rfl) rfl
theorem q1306 : (Jvm.Cond.code ({ cls := "ThirdEbbModel", name := "levelAt", desc := "(I)I" } : Jvm.MethodName) prog_16_method_21_code (5 : Nat) (Option.some Jvm.ClassFile.FieldType.int)) ∈ lw_all := lw_g (lw_at lw_m6 57 rfl) rfl
theorem q1308 : (Jvm.Cond.instanceMethod ({ cls := "ThirdEbbModel", name := "again", desc := "()I" } : Jvm.MethodName)) ∈ lw_all := lw_g (lw_at lw_m6 59 rfl) rfl
theorem q1309 : (Jvm.Cond.selects "ThirdEbbModel" ({ cls := "ThirdEbbModel", name := "again", desc := "()I" } : Jvm.MethodName) ({ cls := "ThirdEbbModel", name := "again", desc := "()I" } : Jvm.MethodName)) ∈ lw_all := lw_g (lw_at lw_m6 60 rfl) rfl
theorem q1310 : (Jvm.Cond.code ({ cls := "ThirdEbbModel", name := "again", desc := "()I" } : Jvm.MethodName) prog_16_method_24_code (4 : Nat) (Option.some Jvm.ClassFile.FieldType.int)) ∈ lw_all := lw_g (lw_at lw_m6 61 rfl) rfl
theorem q1311 : (Jvm.Cond.methodLink "ThirdEbbModel" (147 : Nat) ({ cls := "ThirdEbbModel", name := "comesAgain", desc := "(II)Z" } : Jvm.MethodName)) ∈ lw_all := lw_g (lw_at lw_m6 62 rfl) rfl
theorem q1312 : (Jvm.Cond.privateMethod ({ cls := "ThirdEbbModel", name := "comesAgain", desc := "(II)Z" } : Jvm.MethodName)) ∈ lw_tbl := lw_at lw_m6 63 rfl
theorem q1313 : (Jvm.Cond.instanceMethod ({ cls := "ThirdEbbModel", name := "comesAgain", desc := "(II)Z" } : Jvm.MethodName)) ∈ lw_all := lw_g (lw_at lw_m6 64 rfl) rfl
theorem q1314 : (Jvm.Cond.code ({ cls := "ThirdEbbModel", name := "comesAgain", desc := "(II)Z" } : Jvm.MethodName) prog_16_method_23_code (4 : Nat) (Option.some Jvm.ClassFile.FieldType.boolean)) ∈ lw_all := lw_g (lw_at lw_m6 65 rfl) rfl
theorem q1316 : (Jvm.Cond.instanceMethod ({ cls := "ThirdEbbModel", name := "road", desc := "(IIIII)I" } : Jvm.MethodName)) ∈ lw_all := lw_g (lw_at lw_m6 67 rfl) rfl
theorem q1317 : (Jvm.Cond.selects "ThirdEbbModel" ({ cls := "ThirdEbbModel", name := "road", desc := "(IIIII)I" } : Jvm.MethodName) ({ cls := "ThirdEbbModel", name := "road", desc := "(IIIII)I" } : Jvm.MethodName)) ∈ lw_all := lw_g (lw_at lw_m6 68 rfl) rfl
theorem q1318 : (Jvm.Cond.code ({ cls := "ThirdEbbModel", name := "road", desc := "(IIIII)I" } : Jvm.MethodName) prog_16_method_26_code (6 : Nat) (Option.some Jvm.ClassFile.FieldType.int)) ∈ lw_all := lw_g (lw_at lw_m6 69 rfl) rfl
theorem q1319 : (Jvm.Cond.methodLink "ThirdEbbModel" (150 : Nat) ({ cls := "ThirdEbbModel", name := "isIsland", desc := "(I)Z" } : Jvm.MethodName)) ∈ lw_all := lw_g (lw_at lw_m6 70 rfl) rfl
theorem q1320 : (Jvm.Cond.privateMethod ({ cls := "ThirdEbbModel", name := "isIsland", desc := "(I)Z" } : Jvm.MethodName)) ∈ lw_tbl := lw_at lw_m6 71 rfl
theorem q1321 : (Jvm.Cond.instanceMethod ({ cls := "ThirdEbbModel", name := "isIsland", desc := "(I)Z" } : Jvm.MethodName)) ∈ lw_all := lw_g (lw_at lw_m6 72 rfl) rfl
theorem q1322 : (Jvm.Cond.code ({ cls := "ThirdEbbModel", name := "isIsland", desc := "(I)Z" } : Jvm.MethodName) prog_16_method_11_code (2 : Nat) (Option.some Jvm.ClassFile.FieldType.boolean)) ∈ lw_all := lw_g (lw_at lw_m6 73 rfl) rfl
theorem q1324 : (Jvm.Cond.instanceMethod ({ cls := "ThirdEbbModel", name := "ofRoad", desc := "(II)I" } : Jvm.MethodName)) ∈ lw_all := lw_g (lw_at lw_m6 75 rfl) rfl
theorem q1325 : (Jvm.Cond.selects "ThirdEbbModel" ({ cls := "ThirdEbbModel", name := "ofRoad", desc := "(II)I" } : Jvm.MethodName) ({ cls := "ThirdEbbModel", name := "ofRoad", desc := "(II)I" } : Jvm.MethodName)) ∈ lw_all := lw_g (lw_at lw_m6 76 rfl) rfl
theorem q1326 : (Jvm.Cond.code ({ cls := "ThirdEbbModel", name := "ofRoad", desc := "(II)I" } : Jvm.MethodName) prog_16_method_27_code (3 : Nat) (Option.some Jvm.ClassFile.FieldType.int)) ∈ lw_all := lw_g (lw_at lw_m6 77 rfl) rfl
theorem q1327 : (Jvm.Cond.methodLink "ThirdEbbModel" (153 : Nat) ({ cls := "ThirdEbbModel", name := "isRoad", desc := "(I)Z" } : Jvm.MethodName)) ∈ lw_all := lw_g (lw_at lw_m6 78 rfl) rfl
theorem q1328 : (Jvm.Cond.privateMethod ({ cls := "ThirdEbbModel", name := "isRoad", desc := "(I)Z" } : Jvm.MethodName)) ∈ lw_tbl := lw_at lw_m6 79 rfl
theorem q1329 : (Jvm.Cond.instanceMethod ({ cls := "ThirdEbbModel", name := "isRoad", desc := "(I)Z" } : Jvm.MethodName)) ∈ lw_all := lw_g (lw_at lw_m6 80 rfl) rfl
theorem q1330 : (Jvm.Cond.code ({ cls := "ThirdEbbModel", name := "isRoad", desc := "(I)Z" } : Jvm.MethodName) prog_16_method_25_code (2 : Nat) (Option.some Jvm.ClassFile.FieldType.boolean)) ∈ lw_all := lw_g (lw_at lw_m6 81 rfl) rfl
theorem q1332 : (Jvm.Cond.instanceMethod ({ cls := "ThirdEbbModel", name := "mend", desc := "(I)I" } : Jvm.MethodName)) ∈ lw_all := lw_g (lw_at lw_m6 83 rfl) rfl
theorem q1333 : (Jvm.Cond.selects "ThirdEbbModel" ({ cls := "ThirdEbbModel", name := "mend", desc := "(I)I" } : Jvm.MethodName) ({ cls := "ThirdEbbModel", name := "mend", desc := "(I)I" } : Jvm.MethodName)) ∈ lw_all := lw_g (lw_at lw_m6 84 rfl) rfl
theorem q1334 : (Jvm.Cond.code ({ cls := "ThirdEbbModel", name := "mend", desc := "(I)I" } : Jvm.MethodName) prog_16_method_28_code (2 : Nat) (Option.some Jvm.ClassFile.FieldType.int)) ∈ lw_all := lw_g (lw_at lw_m6 85 rfl) rfl
theorem q1336 : (Jvm.Cond.instanceMethod ({ cls := "ThirdEbbModel", name := "height", desc := "(II)I" } : Jvm.MethodName)) ∈ lw_all := lw_g (lw_at lw_m6 87 rfl) rfl
theorem q1337 : (Jvm.Cond.selects "ThirdEbbModel" ({ cls := "ThirdEbbModel", name := "height", desc := "(II)I" } : Jvm.MethodName) ({ cls := "ThirdEbbModel", name := "height", desc := "(II)I" } : Jvm.MethodName)) ∈ lw_all := lw_g (lw_at lw_m6 88 rfl) rfl
theorem q1338 : (Jvm.Cond.code ({ cls := "ThirdEbbModel", name := "height", desc := "(II)I" } : Jvm.MethodName) prog_16_method_31_code (3 : Nat) (Option.some Jvm.ClassFile.FieldType.int)) ∈ lw_all := lw_g (lw_at lw_m6 89 rfl) rfl
theorem q1339 : (Jvm.Cond.methodLink "ThirdEbbModel" (156 : Nat) ({ cls := "ThirdEbbModel", name := "heightAt", desc := "(II)I" } : Jvm.MethodName)) ∈ lw_all := lw_g (lw_at lw_m6 90 rfl) rfl
theorem q1340 : (Jvm.Cond.privateMethod ({ cls := "ThirdEbbModel", name := "heightAt", desc := "(II)I" } : Jvm.MethodName)) ∈ lw_tbl := lw_at lw_m6 91 rfl
theorem q1341 : (Jvm.Cond.instanceMethod ({ cls := "ThirdEbbModel", name := "heightAt", desc := "(II)I" } : Jvm.MethodName)) ∈ lw_all := lw_g (lw_at lw_m6 92 rfl) rfl
theorem q1342 : (Jvm.Cond.code ({ cls := "ThirdEbbModel", name := "heightAt", desc := "(II)I" } : Jvm.MethodName) prog_16_method_29_code (4 : Nat) (Option.some Jvm.ClassFile.FieldType.int)) ∈ lw_all := lw_g (lw_at lw_m6 93 rfl) rfl
theorem q1344 : (Jvm.Cond.instanceMethod ({ cls := "ThirdEbbModel", name := "dry", desc := "(II)I" } : Jvm.MethodName)) ∈ lw_all := lw_g (lw_at lw_m6 95 rfl) rfl
theorem q1345 : (Jvm.Cond.selects "ThirdEbbModel" ({ cls := "ThirdEbbModel", name := "dry", desc := "(II)I" } : Jvm.MethodName) ({ cls := "ThirdEbbModel", name := "dry", desc := "(II)I" } : Jvm.MethodName)) ∈ lw_all := lw_g (lw_at lw_m6 96 rfl) rfl
theorem q1346 : (Jvm.Cond.code ({ cls := "ThirdEbbModel", name := "dry", desc := "(II)I" } : Jvm.MethodName) prog_16_method_32_code (3 : Nat) (Option.some Jvm.ClassFile.FieldType.int)) ∈ lw_all := lw_g (lw_at lw_m6 97 rfl) rfl
theorem q1347 : (Jvm.Cond.methodLink "ThirdEbbModel" (159 : Nat) ({ cls := "ThirdEbbModel", name := "isDry", desc := "(II)Z" } : Jvm.MethodName)) ∈ lw_all := lw_g (lw_at lw_m6 98 rfl) rfl
theorem q1348 : (Jvm.Cond.privateMethod ({ cls := "ThirdEbbModel", name := "isDry", desc := "(II)Z" } : Jvm.MethodName)) ∈ lw_tbl := lw_at lw_m6 99 rfl
theorem q1349 : (Jvm.Cond.instanceMethod ({ cls := "ThirdEbbModel", name := "isDry", desc := "(II)Z" } : Jvm.MethodName)) ∈ lw_all := lw_g (lw_at lw_m6 100 rfl) rfl
theorem q1350 : (Jvm.Cond.code ({ cls := "ThirdEbbModel", name := "isDry", desc := "(II)Z" } : Jvm.MethodName) prog_16_method_30_code (3 : Nat) (Option.some Jvm.ClassFile.FieldType.boolean)) ∈ lw_all := lw_g (lw_at lw_m6 101 rfl) rfl
theorem q1352 : (Jvm.Cond.instanceMethod ({ cls := "ThirdEbbModel", name := "dryHours", desc := "(IIII)J" } : Jvm.MethodName)) ∈ lw_all := lw_g (lw_at lw_m6 103 rfl) rfl
theorem q1353 : (Jvm.Cond.selects "ThirdEbbModel" ({ cls := "ThirdEbbModel", name := "dryHours", desc := "(IIII)J" } : Jvm.MethodName) ({ cls := "ThirdEbbModel", name := "dryHours", desc := "(IIII)J" } : Jvm.MethodName)) ∈ lw_all := lw_g (lw_at lw_m6 104 rfl) rfl
theorem q1354 : (Jvm.Cond.code ({ cls := "ThirdEbbModel", name := "dryHours", desc := "(IIII)J" } : Jvm.MethodName) prog_16_method_33_code (7 : Nat) (Option.some Jvm.ClassFile.FieldType.long)) ∈ lw_all := lw_g (lw_at lw_m6 105 rfl) rfl
theorem q1355 : (Jvm.Cond.constantLong "ThirdEbbModel" (80 : Nat) (-9223372036854775808 : Int64)) ∈ lw_all := lw_g (lw_at lw_m6 106 rfl) rfl
theorem q1356 : (Jvm.Cond.methodLink "ThirdEbbModel" (162 : Nat) ({ cls := "ThirdEbbModel", name := "share", desc := "(JJI)J" } : Jvm.MethodName)) ∈ lw_all := lw_g (lw_at lw_m6 107 rfl) rfl
theorem q1357 : (Jvm.Cond.static ({ cls := "ThirdEbbModel", name := "share", desc := "(JJI)J" } : Jvm.MethodName)) ∈ lw_all := lw_g (lw_at lw_m6 108 rfl) rfl
theorem q1358 : (Jvm.Cond.code ({ cls := "ThirdEbbModel", name := "share", desc := "(JJI)J" } : Jvm.MethodName) prog_16_method_6_code (11 : Nat) (Option.some Jvm.ClassFile.FieldType.long)) ∈ lw_all := lw_g (lw_at lw_m6 109 rfl) rfl
theorem q1360 : (Jvm.Cond.instanceMethod ({ cls := "ThirdEbbModel", name := "next", desc := "(IIZ)I" } : Jvm.MethodName)) ∈ lw_all := lw_g (lw_at lw_m6 111 rfl) rfl
theorem q1361 : (Jvm.Cond.selects "ThirdEbbModel" ({ cls := "ThirdEbbModel", name := "next", desc := "(IIZ)I" } : Jvm.MethodName) ({ cls := "ThirdEbbModel", name := "next", desc := "(IIZ)I" } : Jvm.MethodName)) ∈ lw_all := lw_g (lw_at lw_m6 112 rfl) rfl
theorem q1362 : (Jvm.Cond.code ({ cls := "ThirdEbbModel", name := "next", desc := "(IIZ)I" } : Jvm.MethodName) prog_16_method_36_code (5 : Nat) (Option.some Jvm.ClassFile.FieldType.int)) ∈ lw_all := lw_g (lw_at lw_m6 113 rfl) rfl
theorem q1363 : (Jvm.Cond.methodLink "ThirdEbbModel" (166 : Nat) ({ cls := "ThirdEbbModel", name := "layRoad", desc := "(IZ)V" } : Jvm.MethodName)) ∈ lw_all := lw_g (lw_at lw_m6 114 rfl) rfl
theorem q1364 : (Jvm.Cond.privateMethod ({ cls := "ThirdEbbModel", name := "layRoad", desc := "(IZ)V" } : Jvm.MethodName)) ∈ lw_tbl := lw_at lw_m6 115 rfl
theorem q1365 : (Jvm.Cond.instanceMethod ({ cls := "ThirdEbbModel", name := "layRoad", desc := "(IZ)V" } : Jvm.MethodName)) ∈ lw_all := lw_g (lw_at lw_m6 116 rfl) rfl
theorem q1366 : (Jvm.Cond.code ({ cls := "ThirdEbbModel", name := "layRoad", desc := "(IZ)V" } : Jvm.MethodName) prog_16_method_35_code (6 : Nat) (Option.none : Option Jvm.ClassFile.FieldType)) ∈ lw_all := lw_g (lw_at lw_m6 117 rfl) rfl
theorem q1368 : (Jvm.Cond.instanceMethod ({ cls := "ThirdEbbModel", name := "soonest", desc := "(IIIZ)I" } : Jvm.MethodName)) ∈ lw_all := lw_g (lw_at lw_m6 119 rfl) rfl
theorem q1369 : (Jvm.Cond.selects "ThirdEbbModel" ({ cls := "ThirdEbbModel", name := "soonest", desc := "(IIIZ)I" } : Jvm.MethodName) ({ cls := "ThirdEbbModel", name := "soonest", desc := "(IIIZ)I" } : Jvm.MethodName)) ∈ lw_all := lw_g (lw_at lw_m6 120 rfl) rfl
theorem q1370 : (Jvm.Cond.code ({ cls := "ThirdEbbModel", name := "soonest", desc := "(IIIZ)I" } : Jvm.MethodName) prog_16_method_40_code (5 : Nat) (Option.some Jvm.ClassFile.FieldType.int)) ∈ lw_all := lw_g (lw_at lw_m6 121 rfl) rfl
theorem q1371 : (Jvm.Cond.methodLink "ThirdEbbModel" (174 : Nat) ({ cls := "ThirdEbbModel", name := "layRoads", desc := "(Z)V" } : Jvm.MethodName)) ∈ lw_all := lw_g (lw_at lw_m6 122 rfl) rfl
theorem q1372 : (Jvm.Cond.privateMethod ({ cls := "ThirdEbbModel", name := "layRoads", desc := "(Z)V" } : Jvm.MethodName)) ∈ lw_tbl := lw_at lw_m6 123 rfl
theorem q1373 : (Jvm.Cond.instanceMethod ({ cls := "ThirdEbbModel", name := "layRoads", desc := "(Z)V" } : Jvm.MethodName)) ∈ lw_all := lw_g (lw_at lw_m6 124 rfl) rfl
theorem q1374 : (Jvm.Cond.code ({ cls := "ThirdEbbModel", name := "layRoads", desc := "(Z)V" } : Jvm.MethodName) prog_16_method_34_code (3 : Nat) (Option.none : Option Jvm.ClassFile.FieldType)) ∈ lw_all := lw_g (lw_at lw_m6 125 rfl) rfl
theorem q1375 : (Jvm.Cond.methodLink "ThirdEbbModel" (178 : Nat) ({ cls := "ThirdEbbModel", name := "findThere", desc := "(II)V" } : Jvm.MethodName)) ∈ lw_all := lw_g (lw_at lw_m6 126 rfl) rfl
theorem q1376 : (Jvm.Cond.privateMethod ({ cls := "ThirdEbbModel", name := "findThere", desc := "(II)V" } : Jvm.MethodName)) ∈ lw_tbl := lw_at lw_m6 127 rfl
theorem q1377 : (Jvm.Cond.instanceMethod ({ cls := "ThirdEbbModel", name := "findThere", desc := "(II)V" } : Jvm.MethodName)) ∈ lw_all := lw_g (lw_at lw_m6 128 rfl) rfl
theorem q1378 : (Jvm.Cond.code ({ cls := "ThirdEbbModel", name := "findThere", desc := "(II)V" } : Jvm.MethodName) prog_16_method_37_code (5 : Nat) (Option.none : Option Jvm.ClassFile.FieldType)) ∈ lw_all := lw_g (lw_at lw_m6 129 rfl) rfl
theorem q1379 : (Jvm.Cond.methodLink "ThirdEbbModel" (170 : Nat) ({ cls := "ThirdEbbModel", name := "cross", desc := "(III)V" } : Jvm.MethodName)) ∈ lw_all := lw_g (lw_at lw_m6 130 rfl) rfl
theorem q1380 : (Jvm.Cond.privateMethod ({ cls := "ThirdEbbModel", name := "cross", desc := "(III)V" } : Jvm.MethodName)) ∈ lw_tbl := lw_at lw_m6 131 rfl
theorem q1381 : (Jvm.Cond.instanceMethod ({ cls := "ThirdEbbModel", name := "cross", desc := "(III)V" } : Jvm.MethodName)) ∈ lw_all := lw_g (lw_at lw_m6 132 rfl) rfl
theorem q1382 : (Jvm.Cond.code ({ cls := "ThirdEbbModel", name := "cross", desc := "(III)V" } : Jvm.MethodName) prog_16_method_38_code (5 : Nat) (Option.none : Option Jvm.ClassFile.FieldType)) ∈ lw_all := lw_g (lw_at lw_m6 133 rfl) rfl
theorem q1383 : (Jvm.Cond.methodLink "ThirdEbbModel" (182 : Nat) ({ cls := "ThirdEbbModel", name := "toldHour", desc := "(I)I" } : Jvm.MethodName)) ∈ lw_all := lw_g (lw_at lw_m6 134 rfl) rfl
theorem q1384 : (Jvm.Cond.static ({ cls := "ThirdEbbModel", name := "toldHour", desc := "(I)I" } : Jvm.MethodName)) ∈ lw_all := lw_g (lw_at lw_m6 135 rfl) rfl
theorem q1385 : (Jvm.Cond.code ({ cls := "ThirdEbbModel", name := "toldHour", desc := "(I)I" } : Jvm.MethodName) prog_16_method_39_code (1 : Nat) (Option.some Jvm.ClassFile.FieldType.int)) ∈ lw_all := lw_g (lw_at lw_m6 136 rfl) rfl
theorem q1387 : (Jvm.Cond.instanceMethod ({ cls := "ThirdEbbModel", name := "way", desc := "(IIIZI)I" } : Jvm.MethodName)) ∈ lw_all := lw_g (lw_at lw_m6 138 rfl) rfl
theorem q1388 : (Jvm.Cond.selects "ThirdEbbModel" ({ cls := "ThirdEbbModel", name := "way", desc := "(IIIZI)I" } : Jvm.MethodName) ({ cls := "ThirdEbbModel", name := "way", desc := "(IIIZI)I" } : Jvm.MethodName)) ∈ lw_all := lw_g (lw_at lw_m6 139 rfl) rfl
theorem q1389 : (Jvm.Cond.code ({ cls := "ThirdEbbModel", name := "way", desc := "(IIIZI)I" } : Jvm.MethodName) prog_16_method_43_code (6 : Nat) (Option.some Jvm.ClassFile.FieldType.int)) ∈ lw_all := lw_g (lw_at lw_m6 140 rfl) rfl
theorem q1390 : (Jvm.Cond.methodLink "ThirdEbbModel" (191 : Nat) ({ cls := "ThirdEbbModel", name := "findWay", desc := "(II)V" } : Jvm.MethodName)) ∈ lw_all := lw_g (lw_at lw_m6 141 rfl) rfl
theorem q1391 : (Jvm.Cond.privateMethod ({ cls := "ThirdEbbModel", name := "findWay", desc := "(II)V" } : Jvm.MethodName)) ∈ lw_tbl := lw_at lw_m6 142 rfl
theorem q1392 : (Jvm.Cond.instanceMethod ({ cls := "ThirdEbbModel", name := "findWay", desc := "(II)V" } : Jvm.MethodName)) ∈ lw_all := lw_g (lw_at lw_m6 143 rfl) rfl
theorem q1393 : (Jvm.Cond.code ({ cls := "ThirdEbbModel", name := "findWay", desc := "(II)V" } : Jvm.MethodName) prog_16_method_42_code (5 : Nat) (Option.none : Option Jvm.ClassFile.FieldType)) ∈ lw_all := lw_g (lw_at lw_m6 144 rfl) rfl
theorem q1394 : (Jvm.Cond.methodLink "ThirdEbbModel" (188 : Nat) ({ cls := "ThirdEbbModel", name := "roadTo", desc := "(I)I" } : Jvm.MethodName)) ∈ lw_all := lw_g (lw_at lw_m6 145 rfl) rfl
theorem q1395 : (Jvm.Cond.privateMethod ({ cls := "ThirdEbbModel", name := "roadTo", desc := "(I)I" } : Jvm.MethodName)) ∈ lw_tbl := lw_at lw_m6 146 rfl
theorem q1396 : (Jvm.Cond.instanceMethod ({ cls := "ThirdEbbModel", name := "roadTo", desc := "(I)I" } : Jvm.MethodName)) ∈ lw_all := lw_g (lw_at lw_m6 147 rfl) rfl
theorem q1397 : (Jvm.Cond.code ({ cls := "ThirdEbbModel", name := "roadTo", desc := "(I)I" } : Jvm.MethodName) prog_16_method_41_code (7 : Nat) (Option.some Jvm.ClassFile.FieldType.int)) ∈ lw_all := lw_g (lw_at lw_m6 148 rfl) rfl
theorem q1399 : (Jvm.Cond.instanceMethod ({ cls := "ThirdEbbModel", name := "latest", desc := "(IIIZ)I" } : Jvm.MethodName)) ∈ lw_all := lw_g (lw_at lw_m6 150 rfl) rfl
theorem q1400 : (Jvm.Cond.selects "ThirdEbbModel" ({ cls := "ThirdEbbModel", name := "latest", desc := "(IIIZ)I" } : Jvm.MethodName) ({ cls := "ThirdEbbModel", name := "latest", desc := "(IIIZ)I" } : Jvm.MethodName)) ∈ lw_all := lw_g (lw_at lw_m6 151 rfl) rfl
theorem q1401 : (Jvm.Cond.code ({ cls := "ThirdEbbModel", name := "latest", desc := "(IIIZ)I" } : Jvm.MethodName) prog_16_method_44_code (8 : Nat) (Option.some Jvm.ClassFile.FieldType.int)) ∈ lw_all := lw_g (lw_at lw_m6 152 rfl) rfl
theorem q1403 : (Jvm.Cond.instanceMethod ({ cls := "ThirdEbbModel", name := "round", desc := "(III)I" } : Jvm.MethodName)) ∈ lw_all := lw_g (lw_at lw_m6 154 rfl) rfl
theorem q1404 : (Jvm.Cond.selects "ThirdEbbModel" ({ cls := "ThirdEbbModel", name := "round", desc := "(III)I" } : Jvm.MethodName) ({ cls := "ThirdEbbModel", name := "round", desc := "(III)I" } : Jvm.MethodName)) ∈ lw_all := lw_g (lw_at lw_m6 155 rfl) rfl
theorem q1405 : (Jvm.Cond.code ({ cls := "ThirdEbbModel", name := "round", desc := "(III)I" } : Jvm.MethodName) prog_16_method_48_code (8 : Nat) (Option.some Jvm.ClassFile.FieldType.int)) ∈ lw_all := lw_g (lw_at lw_m6 156 rfl) rfl
theorem q1406 : (Jvm.Cond.methodLink "ThirdEbbModel" (197 : Nat) ({ cls := "ThirdEbbModel", name := "overBy", desc := "(II)I" } : Jvm.MethodName)) ∈ lw_all := lw_g (lw_at lw_m6 157 rfl) rfl
theorem q1407 : (Jvm.Cond.privateMethod ({ cls := "ThirdEbbModel", name := "overBy", desc := "(II)I" } : Jvm.MethodName)) ∈ lw_tbl := lw_at lw_m6 158 rfl
theorem q1408 : (Jvm.Cond.instanceMethod ({ cls := "ThirdEbbModel", name := "overBy", desc := "(II)I" } : Jvm.MethodName)) ∈ lw_all := lw_g (lw_at lw_m6 159 rfl) rfl
theorem q1409 : (Jvm.Cond.code ({ cls := "ThirdEbbModel", name := "overBy", desc := "(II)I" } : Jvm.MethodName) prog_16_method_45_code (6 : Nat) (Option.some Jvm.ClassFile.FieldType.int)) ∈ lw_all := lw_g (lw_at lw_m6 160 rfl) rfl
theorem q1410 : (Jvm.Cond.methodLink "ThirdEbbModel" (200 : Nat) ({ cls := "ThirdEbbModel", name := "nextOrder", desc := "(I)Z" } : Jvm.MethodName)) ∈ lw_all := lw_g (lw_at lw_m6 161 rfl) rfl
theorem q1411 : (Jvm.Cond.privateMethod ({ cls := "ThirdEbbModel", name := "nextOrder", desc := "(I)Z" } : Jvm.MethodName)) ∈ lw_tbl := lw_at lw_m6 162 rfl
theorem q1412 : (Jvm.Cond.instanceMethod ({ cls := "ThirdEbbModel", name := "nextOrder", desc := "(I)Z" } : Jvm.MethodName)) ∈ lw_all := lw_g (lw_at lw_m6 163 rfl) rfl
theorem q1413 : (Jvm.Cond.code ({ cls := "ThirdEbbModel", name := "nextOrder", desc := "(I)Z" } : Jvm.MethodName) prog_16_method_46_code (6 : Nat) (Option.some Jvm.ClassFile.FieldType.boolean)) ∈ lw_all := lw_g (lw_at lw_m6 164 rfl) rfl
theorem q1414 : (Jvm.Cond.methodLink "ThirdEbbModel" (194 : Nat) ({ cls := "ThirdEbbModel", name := "exchange", desc := "(II)V" } : Jvm.MethodName)) ∈ lw_all := lw_g (lw_at lw_m6 165 rfl) rfl
theorem q1415 : (Jvm.Cond.privateMethod ({ cls := "ThirdEbbModel", name := "exchange", desc := "(II)V" } : Jvm.MethodName)) ∈ lw_tbl := lw_at lw_m6 166 rfl
theorem q1416 : (Jvm.Cond.instanceMethod ({ cls := "ThirdEbbModel", name := "exchange", desc := "(II)V" } : Jvm.MethodName)) ∈ lw_all := lw_g (lw_at lw_m6 167 rfl) rfl
theorem q1417 : (Jvm.Cond.code ({ cls := "ThirdEbbModel", name := "exchange", desc := "(II)V" } : Jvm.MethodName) prog_16_method_47_code (4 : Nat) (Option.none : Option Jvm.ClassFile.FieldType)) ∈ lw_all := lw_g (lw_at lw_m6 168 rfl) rfl
theorem q1419 : (Jvm.Cond.instanceMethod ({ cls := "ThirdEbbModel", name := "meeting", desc := "(III)I" } : Jvm.MethodName)) ∈ lw_all := lw_g (lw_at lw_m6 170 rfl) rfl
theorem q1420 : (Jvm.Cond.selects "ThirdEbbModel" ({ cls := "ThirdEbbModel", name := "meeting", desc := "(III)I" } : Jvm.MethodName) ({ cls := "ThirdEbbModel", name := "meeting", desc := "(III)I" } : Jvm.MethodName)) ∈ lw_all := lw_g (lw_at lw_m6 171 rfl) rfl
theorem q1421 : (Jvm.Cond.code ({ cls := "ThirdEbbModel", name := "meeting", desc := "(III)I" } : Jvm.MethodName) prog_16_method_49_code (6 : Nat) (Option.some Jvm.ClassFile.FieldType.int)) ∈ lw_all := lw_g (lw_at lw_m6 172 rfl) rfl
theorem q1423 : (Jvm.Cond.instanceMethod ({ cls := "ThirdEbbModel", name := "saves", desc := "(IIII)I" } : Jvm.MethodName)) ∈ lw_all := lw_g (lw_at lw_m6 174 rfl) rfl
theorem q1424 : (Jvm.Cond.selects "ThirdEbbModel" ({ cls := "ThirdEbbModel", name := "saves", desc := "(IIII)I" } : Jvm.MethodName) ({ cls := "ThirdEbbModel", name := "saves", desc := "(IIII)I" } : Jvm.MethodName)) ∈ lw_all := lw_g (lw_at lw_m6 175 rfl) rfl
theorem q1425 : (Jvm.Cond.code ({ cls := "ThirdEbbModel", name := "saves", desc := "(IIII)I" } : Jvm.MethodName) prog_16_method_50_code (6 : Nat) (Option.some Jvm.ClassFile.FieldType.int)) ∈ lw_all := lw_g (lw_at lw_m6 176 rfl) rfl
theorem q1427 : (Jvm.Cond.instanceMethod ({ cls := "ThirdEbbModel", name := "table", desc := "(IIIII)I" } : Jvm.MethodName)) ∈ lw_all := lw_g (lw_at lw_m6 178 rfl) rfl
theorem q1428 : (Jvm.Cond.selects "ThirdEbbModel" ({ cls := "ThirdEbbModel", name := "table", desc := "(IIIII)I" } : Jvm.MethodName) ({ cls := "ThirdEbbModel", name := "table", desc := "(IIIII)I" } : Jvm.MethodName)) ∈ lw_all := lw_g (lw_at lw_m6 179 rfl) rfl
theorem q1429 : (Jvm.Cond.code ({ cls := "ThirdEbbModel", name := "table", desc := "(IIIII)I" } : Jvm.MethodName) prog_16_method_51_code (9 : Nat) (Option.some Jvm.ClassFile.FieldType.int)) ∈ lw_all := lw_g (lw_at lw_m6 180 rfl) rfl
theorem q1431 : (Jvm.Cond.instanceMethod ({ cls := "ThirdEbbModel", name := "book", desc := "(IIII)I" } : Jvm.MethodName)) ∈ lw_all := lw_g (lw_at lw_m6 182 rfl) rfl
theorem q1432 : (Jvm.Cond.selects "ThirdEbbModel" ({ cls := "ThirdEbbModel", name := "book", desc := "(IIII)I" } : Jvm.MethodName) ({ cls := "ThirdEbbModel", name := "book", desc := "(IIII)I" } : Jvm.MethodName)) ∈ lw_all := lw_g (lw_at lw_m6 183 rfl) rfl
theorem q1433 : (Jvm.Cond.code ({ cls := "ThirdEbbModel", name := "book", desc := "(IIII)I" } : Jvm.MethodName) prog_16_method_53_code (9 : Nat) (Option.some Jvm.ClassFile.FieldType.int)) ∈ lw_all := lw_g (lw_at lw_m6 184 rfl) rfl
theorem q1434 : (Jvm.Cond.methodLink "ThirdEbbModel" (203 : Nat) ({ cls := "ThirdEbbModel", name := "isMonthOf", desc := "([IIII)Z" } : Jvm.MethodName)) ∈ lw_all := lw_g (lw_at lw_m6 185 rfl) rfl
theorem q1435 : (Jvm.Cond.static ({ cls := "ThirdEbbModel", name := "isMonthOf", desc := "([IIII)Z" } : Jvm.MethodName)) ∈ lw_all := lw_g (lw_at lw_m6 186 rfl) rfl
theorem q1436 : (Jvm.Cond.code ({ cls := "ThirdEbbModel", name := "isMonthOf", desc := "([IIII)Z" } : Jvm.MethodName) prog_16_method_52_code (5 : Nat) (Option.some Jvm.ClassFile.FieldType.boolean)) ∈ lw_all := lw_g (lw_at lw_m6 187 rfl) rfl
theorem q1438 : (Jvm.Cond.instanceMethod ({ cls := "ThirdEbbModel", name := "sheet", desc := "(III)I" } : Jvm.MethodName)) ∈ lw_all := lw_g (lw_at lw_m6 189 rfl) rfl
theorem q1439 : (Jvm.Cond.selects "ThirdEbbModel" ({ cls := "ThirdEbbModel", name := "sheet", desc := "(III)I" } : Jvm.MethodName) ({ cls := "ThirdEbbModel", name := "sheet", desc := "(III)I" } : Jvm.MethodName)) ∈ lw_all := lw_g (lw_at lw_m6 190 rfl) rfl
theorem q1440 : (Jvm.Cond.code ({ cls := "ThirdEbbModel", name := "sheet", desc := "(III)I" } : Jvm.MethodName) prog_16_method_54_code (5 : Nat) (Option.some Jvm.ClassFile.FieldType.int)) ∈ lw_all := lw_g (lw_at lw_m6 191 rfl) rfl
theorem q1442 : (Jvm.Cond.instanceMethod ({ cls := "ThirdEbbModel", name := "lose", desc := "(I)I" } : Jvm.MethodName)) ∈ lw_all := lw_g (lw_at lw_m6 193 rfl) rfl
theorem q1443 : (Jvm.Cond.selects "ThirdEbbModel" ({ cls := "ThirdEbbModel", name := "lose", desc := "(I)I" } : Jvm.MethodName) ({ cls := "ThirdEbbModel", name := "lose", desc := "(I)I" } : Jvm.MethodName)) ∈ lw_all := lw_g (lw_at lw_m6 194 rfl) rfl
theorem q1444 : (Jvm.Cond.code ({ cls := "ThirdEbbModel", name := "lose", desc := "(I)I" } : Jvm.MethodName) prog_16_method_55_code (3 : Nat) (Option.some Jvm.ClassFile.FieldType.int)) ∈ lw_all := lw_g (lw_at lw_m6 195 rfl) rfl
theorem q1446 : (Jvm.Cond.instanceMethod ({ cls := "ThirdEbbModel", name := "put", desc := "(III)I" } : Jvm.MethodName)) ∈ lw_all := lw_g (lw_at lw_m6 197 rfl) rfl
theorem q1447 : (Jvm.Cond.selects "ThirdEbbModel" ({ cls := "ThirdEbbModel", name := "put", desc := "(III)I" } : Jvm.MethodName) ({ cls := "ThirdEbbModel", name := "put", desc := "(III)I" } : Jvm.MethodName)) ∈ lw_all := lw_g (lw_at lw_m6 198 rfl) rfl
theorem q1448 : (Jvm.Cond.code ({ cls := "ThirdEbbModel", name := "put", desc := "(III)I" } : Jvm.MethodName) prog_16_method_56_code (4 : Nat) (Option.some Jvm.ClassFile.FieldType.int)) ∈ lw_all := lw_g (lw_at lw_m6 199 rfl) rfl
theorem q1450 : (Jvm.Cond.instanceMethod ({ cls := "ThirdEbbModel", name := "cell", desc := "(III)J" } : Jvm.MethodName)) ∈ lw_all := lw_g (lw_at lw_m6 201 rfl) rfl
theorem q1451 : (Jvm.Cond.selects "ThirdEbbModel" ({ cls := "ThirdEbbModel", name := "cell", desc := "(III)J" } : Jvm.MethodName) ({ cls := "ThirdEbbModel", name := "cell", desc := "(III)J" } : Jvm.MethodName)) ∈ lw_all := lw_g (lw_at lw_m6 202 rfl) rfl
theorem q1452 : (Jvm.Cond.code ({ cls := "ThirdEbbModel", name := "cell", desc := "(III)J" } : Jvm.MethodName) prog_16_method_57_code (4 : Nat) (Option.some Jvm.ClassFile.FieldType.long)) ∈ lw_all := lw_g (lw_at lw_m6 203 rfl) rfl
theorem q1453 : (Jvm.Cond.methodLink "ThirdEbbModel" (207 : Nat) ({ cls := "ThirdEbbModel", name := "lost", desc := "(I)J" } : Jvm.MethodName)) ∈ lw_all := lw_g (lw_at lw_m6 204 rfl) rfl
theorem q1454 : (Jvm.Cond.privateMethod ({ cls := "ThirdEbbModel", name := "lost", desc := "(I)J" } : Jvm.MethodName)) ∈ lw_tbl := lw_at lw_m6 205 rfl
theorem q1455 : (Jvm.Cond.instanceMethod ({ cls := "ThirdEbbModel", name := "lost", desc := "(I)J" } : Jvm.MethodName)) ∈ lw_all := lw_g (lw_at lw_m6 206 rfl) rfl
theorem q1456 : (Jvm.Cond.code ({ cls := "ThirdEbbModel", name := "lost", desc := "(I)J" } : Jvm.MethodName) prog_16_method_4_code (2 : Nat) (Option.some Jvm.ClassFile.FieldType.long)) ∈ lw_all := lw_g (lw_at lw_m6 207 rfl) rfl
theorem q1458 : (Jvm.Cond.instanceMethod ({ cls := "ThirdEbbModel", name := "copy", desc := "(IIIII)I" } : Jvm.MethodName)) ∈ lw_all := lw_g (lw_at lw_m6 209 rfl) rfl
theorem q1459 : (Jvm.Cond.selects "ThirdEbbModel" ({ cls := "ThirdEbbModel", name := "copy", desc := "(IIIII)I" } : Jvm.MethodName) ({ cls := "ThirdEbbModel", name := "copy", desc := "(IIIII)I" } : Jvm.MethodName)) ∈ lw_all := lw_g (lw_at lw_m6 210 rfl) rfl
theorem q1460 : (Jvm.Cond.code ({ cls := "ThirdEbbModel", name := "copy", desc := "(IIIII)I" } : Jvm.MethodName) prog_16_method_58_code (10 : Nat) (Option.some Jvm.ClassFile.FieldType.int)) ∈ lw_all := lw_g (lw_at lw_m6 211 rfl) rfl
theorem q1462 : (Jvm.Cond.instanceMethod ({ cls := "ThirdEbbModel", name := "tell", desc := "(I)I" } : Jvm.MethodName)) ∈ lw_all := lw_g (lw_at lw_m6 213 rfl) rfl
theorem q1463 : (Jvm.Cond.selects "ThirdEbbModel" ({ cls := "ThirdEbbModel", name := "tell", desc := "(I)I" } : Jvm.MethodName) ({ cls := "ThirdEbbModel", name := "tell", desc := "(I)I" } : Jvm.MethodName)) ∈ lw_all := lw_g (lw_at lw_m6 214 rfl) rfl
theorem q1464 : (Jvm.Cond.code ({ cls := "ThirdEbbModel", name := "tell", desc := "(I)I" } : Jvm.MethodName) prog_16_method_60_code (3 : Nat) (Option.some Jvm.ClassFile.FieldType.int)) ∈ lw_all := lw_g (lw_at lw_m6 215 rfl) rfl
theorem q1465 : (Jvm.Cond.methodLink "ThirdEbbModel" (214 : Nat) ({ cls := "ThirdEbbModel", name := "begins", desc := "(I)V" } : Jvm.MethodName)) ∈ lw_all := lw_g (lw_at lw_m6 216 rfl) rfl
theorem q1466 : (Jvm.Cond.privateMethod ({ cls := "ThirdEbbModel", name := "begins", desc := "(I)V" } : Jvm.MethodName)) ∈ lw_tbl := lw_at lw_m6 217 rfl
theorem q1467 : (Jvm.Cond.instanceMethod ({ cls := "ThirdEbbModel", name := "begins", desc := "(I)V" } : Jvm.MethodName)) ∈ lw_all := lw_g (lw_at lw_m6 218 rfl) rfl
theorem q1468 : (Jvm.Cond.code ({ cls := "ThirdEbbModel", name := "begins", desc := "(I)V" } : Jvm.MethodName) prog_16_method_59_code (2 : Nat) (Option.none : Option Jvm.ClassFile.FieldType)) ∈ lw_all := lw_g (lw_at lw_m6 219 rfl) rfl
theorem q1470 : (Jvm.Cond.instanceMethod ({ cls := "ThirdEbbModel", name := "stake", desc := "(I)I" } : Jvm.MethodName)) ∈ lw_all := lw_g (lw_at lw_m6 221 rfl) rfl
theorem q1471 : (Jvm.Cond.selects "ThirdEbbModel" ({ cls := "ThirdEbbModel", name := "stake", desc := "(I)I" } : Jvm.MethodName) ({ cls := "ThirdEbbModel", name := "stake", desc := "(I)I" } : Jvm.MethodName)) ∈ lw_all := lw_g (lw_at lw_m6 222 rfl) rfl
theorem q1472 : (Jvm.Cond.code ({ cls := "ThirdEbbModel", name := "stake", desc := "(I)I" } : Jvm.MethodName) prog_16_method_61_code (2 : Nat) (Option.some Jvm.ClassFile.FieldType.int)) ∈ lw_all := lw_g (lw_at lw_m6 223 rfl) rfl
theorem q1474 : (Jvm.Cond.instanceMethod ({ cls := "ThirdEbbModel", name := "as", desc := "(II)I" } : Jvm.MethodName)) ∈ lw_all := lw_g (lw_at lw_m6 225 rfl) rfl
theorem q1475 : (Jvm.Cond.selects "ThirdEbbModel" ({ cls := "ThirdEbbModel", name := "as", desc := "(II)I" } : Jvm.MethodName) ({ cls := "ThirdEbbModel", name := "as", desc := "(II)I" } : Jvm.MethodName)) ∈ lw_all := lw_g (lw_at lw_m6 226 rfl) rfl
theorem q1476 : (Jvm.Cond.code ({ cls := "ThirdEbbModel", name := "as", desc := "(II)I" } : Jvm.MethodName) prog_16_method_62_code (3 : Nat) (Option.some Jvm.ClassFile.FieldType.int)) ∈ lw_all := lw_g (lw_at lw_m6 227 rfl) rfl
theorem q1478 : (Jvm.Cond.instanceMethod ({ cls := "ThirdEbbModel", name := "trace", desc := "()I" } : Jvm.MethodName)) ∈ lw_all := lw_g (lw_at lw_m6 229 rfl) rfl
theorem q1479 : (Jvm.Cond.selects "ThirdEbbModel" ({ cls := "ThirdEbbModel", name := "trace", desc := "()I" } : Jvm.MethodName) ({ cls := "ThirdEbbModel", name := "trace", desc := "()I" } : Jvm.MethodName)) ∈ lw_all := lw_g (lw_at lw_m6 230 rfl) rfl
theorem q1480 : (Jvm.Cond.code ({ cls := "ThirdEbbModel", name := "trace", desc := "()I" } : Jvm.MethodName) prog_16_method_63_code (1 : Nat) (Option.some Jvm.ClassFile.FieldType.int)) ∈ lw_all := lw_g (lw_at lw_m6 231 rfl) rfl
theorem q1482 : (Jvm.Cond.instanceMethod ({ cls := "ThirdEbbModel", name := "fault", desc := "()I" } : Jvm.MethodName)) ∈ lw_all := lw_g (lw_at lw_m6 233 rfl) rfl
theorem q1483 : (Jvm.Cond.selects "ThirdEbbModel" ({ cls := "ThirdEbbModel", name := "fault", desc := "()I" } : Jvm.MethodName) ({ cls := "ThirdEbbModel", name := "fault", desc := "()I" } : Jvm.MethodName)) ∈ lw_all := lw_g (lw_at lw_m6 234 rfl) rfl
theorem q1484 : (Jvm.Cond.code ({ cls := "ThirdEbbModel", name := "fault", desc := "()I" } : Jvm.MethodName) prog_16_method_64_code (1 : Nat) (Option.some Jvm.ClassFile.FieldType.int)) ∈ lw_all := lw_g (lw_at lw_m6 235 rfl) rfl
theorem q1486 : (Jvm.Cond.instanceMethod ({ cls := "ThirdEbbModel", name := "many", desc := "(I)I" } : Jvm.MethodName)) ∈ lw_all := lw_g (lw_at lw_m6 237 rfl) rfl
theorem q1487 : (Jvm.Cond.selects "ThirdEbbModel" ({ cls := "ThirdEbbModel", name := "many", desc := "(I)I" } : Jvm.MethodName) ({ cls := "ThirdEbbModel", name := "many", desc := "(I)I" } : Jvm.MethodName)) ∈ lw_all := lw_g (lw_at lw_m6 238 rfl) rfl
theorem q1488 : (Jvm.Cond.code ({ cls := "ThirdEbbModel", name := "many", desc := "(I)I" } : Jvm.MethodName) prog_16_method_65_code (2 : Nat) (Option.some Jvm.ClassFile.FieldType.int)) ∈ lw_all := lw_g (lw_at lw_m6 239 rfl) rfl
theorem q1503 : (Jvm.Cond.castable "ThirdEbbModel" "java/lang/Object") ∈ lw_tbl := lw_at lw_m7 14 rfl
theorem in_X1 : ∀ w ∈ wsX10, w ∈ lw_all := lw_in wsX10 [1180, 1182, 1184, 1186, 1188, 1190, 1192, 1194, 1196, 1198, 1200, 1202, 1204, 1206, 1208, 1210, 1212, 1214, 1216, 1218, 1220, 1222, 1224, 1226, 1228, 1230, 1232, 1234, 1236, 1238, 1240] (by decide +kernel) (by decide +kernel)
