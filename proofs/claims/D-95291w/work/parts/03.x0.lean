/-! ThirdEbb -/
set_option maxRecDepth 100000
def RX0 : String := "ThirdEbb"
def TX0 : u_T := fun k => match k with
  | 0 => ("ThirdEbb", "islands", "I", false)
  | 1 => ("ThirdEbb", "moons", "Ljava/util/List;", true)
  | 2 => ("ThirdEbb", "trace", "I", false)
  | 3 => ("ThirdEbb", "roads", "Ljava/util/List;", true)
  | 4 => ("ThirdEbb", "levels", "[I", true)
  | 5 => ("ThirdEbb", "starts", "[[I", true)
  | 6 => ("ThirdEbb", "there", "[I", true)
  | 7 => ("ThirdEbb", "came", "[I", true)
  | 8 => ("ThirdEbb", "trying", "[I", true)
  | 9 => ("ThirdEbb", "bestRow", "[I", true)
  | 10 => ("ThirdEbb", "over", "I", false)
  | 11 => ("ThirdEbb", "allThere", "[I", true)
  | 12 => ("ThirdEbb", "fault", "I", false)
  | _ => ("ThirdEbb", "sheets", "[LThirdEbb$Sheet;", true)
def tyX0 : Nat → FieldType := fun k => match k with
  | 0 => .int
  | 1 => .object "java/util/List"
  | 2 => .int
  | 3 => .object "java/util/List"
  | 4 => .array .int
  | 5 => .array (.array .int)
  | 6 => .array .int
  | 7 => .array .int
  | 8 => .array .int
  | 9 => .array .int
  | 10 => .int
  | 11 => .array .int
  | 12 => .int
  | _ => .array (.object "ThirdEbb$Sheet")
abbrev wsX00 : List Cond := u_ws RX0 TX0 14
set_option maxRecDepth 100000 in
theorem nmX0 : ∀ a, a < 14 → ∀ b, b < 14 → a ≠ b → (TX0 a).2.1 ≠ (TX0 b).2.1 := by decide +kernel
set_option maxRecDepth 100000 in
theorem tyX0_ok : ∀ k, k < 14 → parseFieldDescriptor (TX0 k).2.2.1 = some (tyX0 k) := by decide +kernel
abbrev cX0_init : ByteArray := prog_1_method_5_code
def yX0_init : MethodName := ⟨RX0, "<init>", "()V"⟩
def dkwX0_init_4 : List UInt8 := [181, 0, 57, 177]
abbrev dktX0_init_4 : List UInt8 := dkwX0_init_4 ++ []
def dkwX0_init_3 : List UInt8 := [181, 0, 46, 42, 16, 6, 188, 10, 181, 0, 49, 42, 16, 6, 188, 10, 181, 0, 52, 42, 7, 189, 0, 55]
abbrev dktX0_init_3 : List UInt8 := dkwX0_init_3 ++ dktX0_init_4
def dkwX0_init_2 : List UInt8 := [181, 0, 37, 42, 16, 6, 188, 10, 181, 0, 40, 42, 16, 6, 188, 10, 181, 0, 43, 42, 16, 6, 188, 10]
abbrev dktX0_init_2 : List UInt8 := dkwX0_init_2 ++ dktX0_init_3
def dkwX0_init_1 : List UInt8 := [181, 0, 28, 42, 17, 7, 208, 188, 10, 181, 0, 31, 42, 16, 10, 17, 7, 209, 197, 0, 35, 2]
abbrev dktX0_init_1 : List UInt8 := dkwX0_init_1 ++ dktX0_init_2
def dkwX0_init_0 : List UInt8 := [42, 183, 0, 15, 42, 187, 0, 21, 89, 183, 0, 23, 181, 0, 24, 42, 187, 0, 21, 89, 183, 0, 23]
abbrev dktX0_init_0 : List UInt8 := dkwX0_init_0 ++ dktX0_init_1
theorem dksX0_init_0 : cX0_init.data.toList.drop 0 = dktX0_init_0 := by decide +kernel
theorem dksX0_init_1 : cX0_init.data.toList.drop 23 = dktX0_init_1 := dk_seg dksX0_init_0 23 rfl rfl
theorem dksX0_init_2 : cX0_init.data.toList.drop 45 = dktX0_init_2 := dk_seg dksX0_init_1 22 rfl rfl
theorem dksX0_init_3 : cX0_init.data.toList.drop 69 = dktX0_init_3 := dk_seg dksX0_init_2 24 rfl rfl
theorem dksX0_init_4 : cX0_init.data.toList.drop 93 = dktX0_init_4 := dk_seg dksX0_init_3 24 rfl rfl
theorem dX0_init_0 : decode cX0_init 0 = .ok (.aload_n 0, 1) := dk_42 (dk_at dksX0_init_0 0 rfl rfl)
theorem dX0_init_1 : decode cX0_init 1 = .ok (.invokespecial 15, 3) := dk_183 0 15 (dk_at dksX0_init_0 1 rfl rfl)
theorem dX0_init_4 : decode cX0_init 4 = .ok (.aload_n 0, 1) := dk_42 (dk_at dksX0_init_0 4 rfl rfl)
theorem dX0_init_5 : decode cX0_init 5 = .ok (.new 21, 3) := dk_187 0 21 (dk_at dksX0_init_0 5 rfl rfl)
theorem dX0_init_8 : decode cX0_init 8 = .ok (.dup, 1) := dk_89 (dk_at dksX0_init_0 8 rfl rfl)
theorem dX0_init_9 : decode cX0_init 9 = .ok (.invokespecial 23, 3) := dk_183 0 23 (dk_at dksX0_init_0 9 rfl rfl)
theorem dX0_init_12 : decode cX0_init 12 = .ok (.putfield 24, 3) := dk_181 0 24 (dk_at dksX0_init_0 12 rfl rfl)
theorem dX0_init_15 : decode cX0_init 15 = .ok (.aload_n 0, 1) := dk_42 (dk_at dksX0_init_0 15 rfl rfl)
theorem dX0_init_16 : decode cX0_init 16 = .ok (.new 21, 3) := dk_187 0 21 (dk_at dksX0_init_0 16 rfl rfl)
theorem dX0_init_19 : decode cX0_init 19 = .ok (.dup, 1) := dk_89 (dk_at dksX0_init_0 19 rfl rfl)
theorem dX0_init_20 : decode cX0_init 20 = .ok (.invokespecial 23, 3) := dk_183 0 23 (dk_at dksX0_init_0 20 rfl rfl)
theorem dX0_init_23 : decode cX0_init 23 = .ok (.putfield 28, 3) := dk_181 0 28 (dk_at dksX0_init_1 0 rfl rfl)
theorem dX0_init_26 : decode cX0_init 26 = .ok (.aload_n 0, 1) := dk_42 (dk_at dksX0_init_1 3 rfl rfl)
theorem dX0_init_27 : decode cX0_init 27 = .ok (.sipush 2000, 3) := dk_17 7 208 (dk_at dksX0_init_1 4 rfl rfl)
theorem dX0_init_30 : decode cX0_init 30 = .ok (.newarray .int, 2) := dk_188_10 (dk_at dksX0_init_1 7 rfl rfl)
theorem dX0_init_32 : decode cX0_init 32 = .ok (.putfield 31, 3) := dk_181 0 31 (dk_at dksX0_init_1 9 rfl rfl)
theorem dX0_init_35 : decode cX0_init 35 = .ok (.aload_n 0, 1) := dk_42 (dk_at dksX0_init_1 12 rfl rfl)
theorem dX0_init_36 : decode cX0_init 36 = .ok (.bipush 10, 2) := dk_16 10 (dk_at dksX0_init_1 13 rfl rfl)
theorem dX0_init_38 : decode cX0_init 38 = .ok (.sipush 2001, 3) := dk_17 7 209 (dk_at dksX0_init_1 15 rfl rfl)
theorem dX0_init_41 : decode cX0_init 41 = .ok (.multianewarray 35 2, 4) := by decide +kernel
theorem dX0_init_45 : decode cX0_init 45 = .ok (.putfield 37, 3) := dk_181 0 37 (dk_at dksX0_init_2 0 rfl rfl)
theorem dX0_init_48 : decode cX0_init 48 = .ok (.aload_n 0, 1) := dk_42 (dk_at dksX0_init_2 3 rfl rfl)
theorem dX0_init_49 : decode cX0_init 49 = .ok (.bipush 6, 2) := dk_16 6 (dk_at dksX0_init_2 4 rfl rfl)
theorem dX0_init_51 : decode cX0_init 51 = .ok (.newarray .int, 2) := dk_188_10 (dk_at dksX0_init_2 6 rfl rfl)
theorem dX0_init_53 : decode cX0_init 53 = .ok (.putfield 40, 3) := dk_181 0 40 (dk_at dksX0_init_2 8 rfl rfl)
theorem dX0_init_56 : decode cX0_init 56 = .ok (.aload_n 0, 1) := dk_42 (dk_at dksX0_init_2 11 rfl rfl)
theorem dX0_init_57 : decode cX0_init 57 = .ok (.bipush 6, 2) := dk_16 6 (dk_at dksX0_init_2 12 rfl rfl)
theorem dX0_init_59 : decode cX0_init 59 = .ok (.newarray .int, 2) := dk_188_10 (dk_at dksX0_init_2 14 rfl rfl)
theorem dX0_init_61 : decode cX0_init 61 = .ok (.putfield 43, 3) := dk_181 0 43 (dk_at dksX0_init_2 16 rfl rfl)
theorem dX0_init_64 : decode cX0_init 64 = .ok (.aload_n 0, 1) := dk_42 (dk_at dksX0_init_2 19 rfl rfl)
theorem dX0_init_65 : decode cX0_init 65 = .ok (.bipush 6, 2) := dk_16 6 (dk_at dksX0_init_2 20 rfl rfl)
theorem dX0_init_67 : decode cX0_init 67 = .ok (.newarray .int, 2) := dk_188_10 (dk_at dksX0_init_2 22 rfl rfl)
theorem dX0_init_69 : decode cX0_init 69 = .ok (.putfield 46, 3) := dk_181 0 46 (dk_at dksX0_init_3 0 rfl rfl)
theorem dX0_init_72 : decode cX0_init 72 = .ok (.aload_n 0, 1) := dk_42 (dk_at dksX0_init_3 3 rfl rfl)
theorem dX0_init_73 : decode cX0_init 73 = .ok (.bipush 6, 2) := dk_16 6 (dk_at dksX0_init_3 4 rfl rfl)
theorem dX0_init_75 : decode cX0_init 75 = .ok (.newarray .int, 2) := dk_188_10 (dk_at dksX0_init_3 6 rfl rfl)
theorem dX0_init_77 : decode cX0_init 77 = .ok (.putfield 49, 3) := dk_181 0 49 (dk_at dksX0_init_3 8 rfl rfl)
theorem dX0_init_80 : decode cX0_init 80 = .ok (.aload_n 0, 1) := dk_42 (dk_at dksX0_init_3 11 rfl rfl)
theorem dX0_init_81 : decode cX0_init 81 = .ok (.bipush 6, 2) := dk_16 6 (dk_at dksX0_init_3 12 rfl rfl)
theorem dX0_init_83 : decode cX0_init 83 = .ok (.newarray .int, 2) := dk_188_10 (dk_at dksX0_init_3 14 rfl rfl)
theorem dX0_init_85 : decode cX0_init 85 = .ok (.putfield 52, 3) := dk_181 0 52 (dk_at dksX0_init_3 16 rfl rfl)
theorem dX0_init_88 : decode cX0_init 88 = .ok (.aload_n 0, 1) := dk_42 (dk_at dksX0_init_3 19 rfl rfl)
theorem dX0_init_89 : decode cX0_init 89 = .ok (.iconst 4, 1) := dk_7 (dk_at dksX0_init_3 20 rfl rfl)
theorem dX0_init_90 : decode cX0_init 90 = .ok (.anewarray 55, 3) := dk_189 0 55 (dk_at dksX0_init_3 21 rfl rfl)
theorem dX0_init_93 : decode cX0_init 93 = .ok (.putfield 57, 3) := dk_181 0 57 (dk_at dksX0_init_4 0 rfl rfl)
theorem dX0_init_96 : decode cX0_init 96 = .ok (.return_, 1) := dk_177 (dk_at dksX0_init_4 3 rfl rfl)
abbrev cX0_ofMoon : ByteArray := prog_1_method_11_code
def yX0_ofMoon : MethodName := ⟨RX0, "ofMoon", "(II)I"⟩
def dkwX0_ofMoon_2 : List UInt8 := [5, 160, 0, 10, 45, 180, 0, 122, 167, 0, 5, 16, 254, 172]
abbrev dktX0_ofMoon_2 : List UInt8 := dkwX0_ofMoon_2 ++ []
def dkwX0_ofMoon_1 : List UInt8 := [28, 154, 0, 10, 45, 180, 0, 116, 167, 0, 29, 28, 4, 160, 0, 10, 45, 180, 0, 119, 167, 0, 17, 28]
abbrev dktX0_ofMoon_1 : List UInt8 := dkwX0_ofMoon_1 ++ dktX0_ofMoon_2
def dkwX0_ofMoon_0 : List UInt8 := [42, 27, 182, 0, 108, 153, 0, 5, 2, 172, 42, 180, 0, 24, 27, 185, 0, 112, 2, 0, 192, 0, 92, 78]
abbrev dktX0_ofMoon_0 : List UInt8 := dkwX0_ofMoon_0 ++ dktX0_ofMoon_1
theorem dksX0_ofMoon_0 : cX0_ofMoon.data.toList.drop 0 = dktX0_ofMoon_0 := by decide +kernel
theorem dksX0_ofMoon_1 : cX0_ofMoon.data.toList.drop 24 = dktX0_ofMoon_1 := dk_seg dksX0_ofMoon_0 24 rfl rfl
theorem dksX0_ofMoon_2 : cX0_ofMoon.data.toList.drop 48 = dktX0_ofMoon_2 := dk_seg dksX0_ofMoon_1 24 rfl rfl
theorem dX0_ofMoon_0 : decode cX0_ofMoon 0 = .ok (.aload_n 0, 1) := dk_42 (dk_at dksX0_ofMoon_0 0 rfl rfl)
theorem dX0_ofMoon_1 : decode cX0_ofMoon 1 = .ok (.iload_n 1, 1) := dk_27 (dk_at dksX0_ofMoon_0 1 rfl rfl)
theorem dX0_ofMoon_2 : decode cX0_ofMoon 2 = .ok (.invokevirtual 108, 3) := dk_182 0 108 (dk_at dksX0_ofMoon_0 2 rfl rfl)
theorem dX0_ofMoon_5 : decode cX0_ofMoon 5 = .ok (.ifCond .eq 5, 3) := dk_153 0 5 (dk_at dksX0_ofMoon_0 5 rfl rfl)
theorem dX0_ofMoon_8 : decode cX0_ofMoon 8 = .ok (.iconst (-1), 1) := dk_2 (dk_at dksX0_ofMoon_0 8 rfl rfl)
theorem dX0_ofMoon_9 : decode cX0_ofMoon 9 = .ok (.ireturn, 1) := dk_172 (dk_at dksX0_ofMoon_0 9 rfl rfl)
theorem dX0_ofMoon_10 : decode cX0_ofMoon 10 = .ok (.aload_n 0, 1) := dk_42 (dk_at dksX0_ofMoon_0 10 rfl rfl)
theorem dX0_ofMoon_11 : decode cX0_ofMoon 11 = .ok (.getfield 24, 3) := dk_180 0 24 (dk_at dksX0_ofMoon_0 11 rfl rfl)
theorem dX0_ofMoon_14 : decode cX0_ofMoon 14 = .ok (.iload_n 1, 1) := dk_27 (dk_at dksX0_ofMoon_0 14 rfl rfl)
theorem dX0_ofMoon_15 : decode cX0_ofMoon 15 = .ok (.invokeinterface 112 2, 5) := by decide +kernel
theorem dX0_ofMoon_20 : decode cX0_ofMoon 20 = .ok (.checkcast 92, 3) := dk_192 0 92 (dk_at dksX0_ofMoon_0 20 rfl rfl)
theorem dX0_ofMoon_23 : decode cX0_ofMoon 23 = .ok (.astore_n 3, 1) := dk_78 (dk_at dksX0_ofMoon_0 23 rfl rfl)
theorem dX0_ofMoon_24 : decode cX0_ofMoon 24 = .ok (.iload_n 2, 1) := dk_28 (dk_at dksX0_ofMoon_1 0 rfl rfl)
theorem dX0_ofMoon_25 : decode cX0_ofMoon 25 = .ok (.ifCond .ne 10, 3) := dk_154 0 10 (dk_at dksX0_ofMoon_1 1 rfl rfl)
theorem dX0_ofMoon_28 : decode cX0_ofMoon 28 = .ok (.aload_n 3, 1) := dk_45 (dk_at dksX0_ofMoon_1 4 rfl rfl)
theorem dX0_ofMoon_29 : decode cX0_ofMoon 29 = .ok (.getfield 116, 3) := dk_180 0 116 (dk_at dksX0_ofMoon_1 5 rfl rfl)
theorem dX0_ofMoon_32 : decode cX0_ofMoon 32 = .ok (.goto 29, 3) := dk_167 0 29 (dk_at dksX0_ofMoon_1 8 rfl rfl)
theorem dX0_ofMoon_35 : decode cX0_ofMoon 35 = .ok (.iload_n 2, 1) := dk_28 (dk_at dksX0_ofMoon_1 11 rfl rfl)
theorem dX0_ofMoon_36 : decode cX0_ofMoon 36 = .ok (.iconst 1, 1) := dk_4 (dk_at dksX0_ofMoon_1 12 rfl rfl)
theorem dX0_ofMoon_37 : decode cX0_ofMoon 37 = .ok (.if_icmp .ne 10, 3) := dk_160 0 10 (dk_at dksX0_ofMoon_1 13 rfl rfl)
theorem dX0_ofMoon_40 : decode cX0_ofMoon 40 = .ok (.aload_n 3, 1) := dk_45 (dk_at dksX0_ofMoon_1 16 rfl rfl)
theorem dX0_ofMoon_41 : decode cX0_ofMoon 41 = .ok (.getfield 119, 3) := dk_180 0 119 (dk_at dksX0_ofMoon_1 17 rfl rfl)
theorem dX0_ofMoon_44 : decode cX0_ofMoon 44 = .ok (.goto 17, 3) := dk_167 0 17 (dk_at dksX0_ofMoon_1 20 rfl rfl)
theorem dX0_ofMoon_47 : decode cX0_ofMoon 47 = .ok (.iload_n 2, 1) := dk_28 (dk_at dksX0_ofMoon_1 23 rfl rfl)
theorem dX0_ofMoon_48 : decode cX0_ofMoon 48 = .ok (.iconst 2, 1) := dk_5 (dk_at dksX0_ofMoon_2 0 rfl rfl)
theorem dX0_ofMoon_49 : decode cX0_ofMoon 49 = .ok (.if_icmp .ne 10, 3) := dk_160 0 10 (dk_at dksX0_ofMoon_2 1 rfl rfl)
theorem dX0_ofMoon_52 : decode cX0_ofMoon 52 = .ok (.aload_n 3, 1) := dk_45 (dk_at dksX0_ofMoon_2 4 rfl rfl)
theorem dX0_ofMoon_53 : decode cX0_ofMoon 53 = .ok (.getfield 122, 3) := dk_180 0 122 (dk_at dksX0_ofMoon_2 5 rfl rfl)
theorem dX0_ofMoon_56 : decode cX0_ofMoon 56 = .ok (.goto 5, 3) := dk_167 0 5 (dk_at dksX0_ofMoon_2 8 rfl rfl)
theorem dX0_ofMoon_59 : decode cX0_ofMoon 59 = .ok (.bipush (-2), 2) := dk_16 254 (dk_at dksX0_ofMoon_2 11 rfl rfl)
theorem dX0_ofMoon_61 : decode cX0_ofMoon 61 = .ok (.ireturn, 1) := dk_172 (dk_at dksX0_ofMoon_2 13 rfl rfl)
abbrev cX0_noMoon : ByteArray := prog_1_method_7_code
def yX0_noMoon : MethodName := ⟨RX0, "noMoon", "(I)Z"⟩
def dkwX0_noMoon_1 : List UInt8 := [167, 0, 4, 3, 172]
abbrev dktX0_noMoon_1 : List UInt8 := dkwX0_noMoon_1 ++ []
def dkwX0_noMoon_0 : List UInt8 := [27, 133, 9, 42, 180, 0, 24, 185, 0, 65, 1, 0, 4, 100, 133, 184, 0, 11, 154, 0, 7, 4]
abbrev dktX0_noMoon_0 : List UInt8 := dkwX0_noMoon_0 ++ dktX0_noMoon_1
theorem dksX0_noMoon_0 : cX0_noMoon.data.toList.drop 0 = dktX0_noMoon_0 := by decide +kernel
theorem dksX0_noMoon_1 : cX0_noMoon.data.toList.drop 22 = dktX0_noMoon_1 := dk_seg dksX0_noMoon_0 22 rfl rfl
theorem dX0_noMoon_0 : decode cX0_noMoon 0 = .ok (.iload_n 1, 1) := dk_27 (dk_at dksX0_noMoon_0 0 rfl rfl)
theorem dX0_noMoon_1 : decode cX0_noMoon 1 = .ok (.i2l, 1) := dk_133 (dk_at dksX0_noMoon_0 1 rfl rfl)
theorem dX0_noMoon_2 : decode cX0_noMoon 2 = .ok (.lconst 0, 1) := dk_9 (dk_at dksX0_noMoon_0 2 rfl rfl)
theorem dX0_noMoon_3 : decode cX0_noMoon 3 = .ok (.aload_n 0, 1) := dk_42 (dk_at dksX0_noMoon_0 3 rfl rfl)
theorem dX0_noMoon_4 : decode cX0_noMoon 4 = .ok (.getfield 24, 3) := dk_180 0 24 (dk_at dksX0_noMoon_0 4 rfl rfl)
theorem dX0_noMoon_7 : decode cX0_noMoon 7 = .ok (.invokeinterface 65 1, 5) := by decide +kernel
theorem dX0_noMoon_12 : decode cX0_noMoon 12 = .ok (.iconst 1, 1) := dk_4 (dk_at dksX0_noMoon_0 12 rfl rfl)
theorem dX0_noMoon_13 : decode cX0_noMoon 13 = .ok (.isub, 1) := dk_100 (dk_at dksX0_noMoon_0 13 rfl rfl)
theorem dX0_noMoon_14 : decode cX0_noMoon 14 = .ok (.i2l, 1) := dk_133 (dk_at dksX0_noMoon_0 14 rfl rfl)
theorem dX0_noMoon_15 : decode cX0_noMoon 15 = .ok (.invokestatic 11, 3) := dk_184 0 11 (dk_at dksX0_noMoon_0 15 rfl rfl)
theorem dX0_noMoon_18 : decode cX0_noMoon 18 = .ok (.ifCond .ne 7, 3) := dk_154 0 7 (dk_at dksX0_noMoon_0 18 rfl rfl)
theorem dX0_noMoon_21 : decode cX0_noMoon 21 = .ok (.iconst 1, 1) := dk_4 (dk_at dksX0_noMoon_0 21 rfl rfl)
theorem dX0_noMoon_22 : decode cX0_noMoon 22 = .ok (.goto 4, 3) := dk_167 0 4 (dk_at dksX0_noMoon_1 0 rfl rfl)
theorem dX0_noMoon_25 : decode cX0_noMoon 25 = .ok (.iconst 0, 1) := dk_3 (dk_at dksX0_noMoon_1 3 rfl rfl)
theorem dX0_noMoon_26 : decode cX0_noMoon 26 = .ok (.ireturn, 1) := dk_172 (dk_at dksX0_noMoon_1 4 rfl rfl)
abbrev cX0_in : ByteArray := prog_1_method_1_code
def yX0_in : MethodName := ⟨RX0, "in", "(JJJ)Z"⟩
def dkwX0_in_0 : List UInt8 := [30, 32, 148, 155, 0, 14, 30, 22, 4, 148, 157, 0, 7, 4, 167, 0, 4, 3, 172]
abbrev dktX0_in_0 : List UInt8 := dkwX0_in_0 ++ []
theorem dksX0_in_0 : cX0_in.data.toList.drop 0 = dktX0_in_0 := by decide +kernel
theorem dX0_in_0 : decode cX0_in 0 = .ok (.lload_n 0, 1) := dk_30 (dk_at dksX0_in_0 0 rfl rfl)
theorem dX0_in_1 : decode cX0_in 1 = .ok (.lload_n 2, 1) := dk_32 (dk_at dksX0_in_0 1 rfl rfl)
theorem dX0_in_2 : decode cX0_in 2 = .ok (.lcmp, 1) := dk_148 (dk_at dksX0_in_0 2 rfl rfl)
theorem dX0_in_3 : decode cX0_in 3 = .ok (.ifCond .lt 14, 3) := dk_155 0 14 (dk_at dksX0_in_0 3 rfl rfl)
theorem dX0_in_6 : decode cX0_in 6 = .ok (.lload_n 0, 1) := dk_30 (dk_at dksX0_in_0 6 rfl rfl)
theorem dX0_in_7 : decode cX0_in 7 = .ok (.lload 4, 2) := dk_22 4 (dk_at dksX0_in_0 7 rfl rfl)
theorem dX0_in_9 : decode cX0_in 9 = .ok (.lcmp, 1) := dk_148 (dk_at dksX0_in_0 9 rfl rfl)
theorem dX0_in_10 : decode cX0_in 10 = .ok (.ifCond .gt 7, 3) := dk_157 0 7 (dk_at dksX0_in_0 10 rfl rfl)
theorem dX0_in_13 : decode cX0_in 13 = .ok (.iconst 1, 1) := dk_4 (dk_at dksX0_in_0 13 rfl rfl)
theorem dX0_in_14 : decode cX0_in 14 = .ok (.goto 4, 3) := dk_167 0 4 (dk_at dksX0_in_0 14 rfl rfl)
theorem dX0_in_17 : decode cX0_in 17 = .ok (.iconst 0, 1) := dk_3 (dk_at dksX0_in_0 17 rfl rfl)
theorem dX0_in_18 : decode cX0_in 18 = .ok (.ireturn, 1) := dk_172 (dk_at dksX0_in_0 18 rfl rfl)
abbrev cX0_phase : ByteArray := prog_1_method_12_code
def yX0_phase : MethodName := ⟨RX0, "phase", "(II)I"⟩
def dkwX0_phase_1 : List UInt8 := [185, 0, 112, 2, 0, 192, 0, 92, 28, 182, 0, 128, 167, 0, 5, 16, 254, 172]
abbrev dktX0_phase_1 : List UInt8 := dkwX0_phase_1 ++ []
def dkwX0_phase_0 : List UInt8 := [42, 27, 182, 0, 108, 153, 0, 5, 2, 172, 28, 184, 0, 125, 153, 0, 23, 42, 180, 0, 24, 27]
abbrev dktX0_phase_0 : List UInt8 := dkwX0_phase_0 ++ dktX0_phase_1
theorem dksX0_phase_0 : cX0_phase.data.toList.drop 0 = dktX0_phase_0 := by decide +kernel
theorem dksX0_phase_1 : cX0_phase.data.toList.drop 22 = dktX0_phase_1 := dk_seg dksX0_phase_0 22 rfl rfl
theorem dX0_phase_0 : decode cX0_phase 0 = .ok (.aload_n 0, 1) := dk_42 (dk_at dksX0_phase_0 0 rfl rfl)
theorem dX0_phase_1 : decode cX0_phase 1 = .ok (.iload_n 1, 1) := dk_27 (dk_at dksX0_phase_0 1 rfl rfl)
theorem dX0_phase_2 : decode cX0_phase 2 = .ok (.invokevirtual 108, 3) := dk_182 0 108 (dk_at dksX0_phase_0 2 rfl rfl)
theorem dX0_phase_5 : decode cX0_phase 5 = .ok (.ifCond .eq 5, 3) := dk_153 0 5 (dk_at dksX0_phase_0 5 rfl rfl)
theorem dX0_phase_8 : decode cX0_phase 8 = .ok (.iconst (-1), 1) := dk_2 (dk_at dksX0_phase_0 8 rfl rfl)
theorem dX0_phase_9 : decode cX0_phase 9 = .ok (.ireturn, 1) := dk_172 (dk_at dksX0_phase_0 9 rfl rfl)
theorem dX0_phase_10 : decode cX0_phase 10 = .ok (.iload_n 2, 1) := dk_28 (dk_at dksX0_phase_0 10 rfl rfl)
theorem dX0_phase_11 : decode cX0_phase 11 = .ok (.invokestatic 125, 3) := dk_184 0 125 (dk_at dksX0_phase_0 11 rfl rfl)
theorem dX0_phase_14 : decode cX0_phase 14 = .ok (.ifCond .eq 23, 3) := dk_153 0 23 (dk_at dksX0_phase_0 14 rfl rfl)
theorem dX0_phase_17 : decode cX0_phase 17 = .ok (.aload_n 0, 1) := dk_42 (dk_at dksX0_phase_0 17 rfl rfl)
theorem dX0_phase_18 : decode cX0_phase 18 = .ok (.getfield 24, 3) := dk_180 0 24 (dk_at dksX0_phase_0 18 rfl rfl)
theorem dX0_phase_21 : decode cX0_phase 21 = .ok (.iload_n 1, 1) := dk_27 (dk_at dksX0_phase_0 21 rfl rfl)
theorem dX0_phase_22 : decode cX0_phase 22 = .ok (.invokeinterface 112 2, 5) := by decide +kernel
theorem dX0_phase_27 : decode cX0_phase 27 = .ok (.checkcast 92, 3) := dk_192 0 92 (dk_at dksX0_phase_1 5 rfl rfl)
theorem dX0_phase_30 : decode cX0_phase 30 = .ok (.iload_n 2, 1) := dk_28 (dk_at dksX0_phase_1 8 rfl rfl)
theorem dX0_phase_31 : decode cX0_phase 31 = .ok (.invokevirtual 128, 3) := dk_182 0 128 (dk_at dksX0_phase_1 9 rfl rfl)
theorem dX0_phase_34 : decode cX0_phase 34 = .ok (.goto 5, 3) := dk_167 0 5 (dk_at dksX0_phase_1 12 rfl rfl)
theorem dX0_phase_37 : decode cX0_phase 37 = .ok (.bipush (-2), 2) := dk_16 254 (dk_at dksX0_phase_1 15 rfl rfl)
theorem dX0_phase_39 : decode cX0_phase 39 = .ok (.ireturn, 1) := dk_172 (dk_at dksX0_phase_1 17 rfl rfl)
abbrev cX0_isHour : ByteArray := prog_1_method_4_code
def yX0_isHour : MethodName := ⟨RX0, "isHour", "(I)Z"⟩
def dkwX0_isHour_0 : List UInt8 := [26, 133, 9, 20, 0, 9, 184, 0, 11, 172]
abbrev dktX0_isHour_0 : List UInt8 := dkwX0_isHour_0 ++ []
theorem dksX0_isHour_0 : cX0_isHour.data.toList.drop 0 = dktX0_isHour_0 := by decide +kernel
theorem dX0_isHour_0 : decode cX0_isHour 0 = .ok (.iload_n 0, 1) := dk_26 (dk_at dksX0_isHour_0 0 rfl rfl)
theorem dX0_isHour_1 : decode cX0_isHour 1 = .ok (.i2l, 1) := dk_133 (dk_at dksX0_isHour_0 1 rfl rfl)
theorem dX0_isHour_2 : decode cX0_isHour 2 = .ok (.lconst 0, 1) := dk_9 (dk_at dksX0_isHour_0 2 rfl rfl)
theorem dX0_isHour_3 : decode cX0_isHour 3 = .ok (.ldc2_w 9, 3) := dk_20 0 9 (dk_at dksX0_isHour_0 3 rfl rfl)
theorem dX0_isHour_6 : decode cX0_isHour 6 = .ok (.invokestatic 11, 3) := dk_184 0 11 (dk_at dksX0_isHour_0 6 rfl rfl)
theorem dX0_isHour_9 : decode cX0_isHour 9 = .ok (.ireturn, 1) := dk_172 (dk_at dksX0_isHour_0 9 rfl rfl)
abbrev cX0_level : ByteArray := prog_1_method_14_code
def yX0_level : MethodName := ⟨RX0, "level", "(I)I"⟩
def dkwX0_level_1 : List UInt8 := [182, 0, 135, 172]
abbrev dktX0_level_1 : List UInt8 := dkwX0_level_1 ++ []
def dkwX0_level_0 : List UInt8 := [27, 184, 0, 125, 154, 0, 6, 16, 254, 172, 42, 180, 0, 61, 154, 0, 8, 16, 253, 167, 0, 8, 42, 27]
abbrev dktX0_level_0 : List UInt8 := dkwX0_level_0 ++ dktX0_level_1
theorem dksX0_level_0 : cX0_level.data.toList.drop 0 = dktX0_level_0 := by decide +kernel
theorem dksX0_level_1 : cX0_level.data.toList.drop 24 = dktX0_level_1 := dk_seg dksX0_level_0 24 rfl rfl
theorem dX0_level_0 : decode cX0_level 0 = .ok (.iload_n 1, 1) := dk_27 (dk_at dksX0_level_0 0 rfl rfl)
theorem dX0_level_1 : decode cX0_level 1 = .ok (.invokestatic 125, 3) := dk_184 0 125 (dk_at dksX0_level_0 1 rfl rfl)
theorem dX0_level_4 : decode cX0_level 4 = .ok (.ifCond .ne 6, 3) := dk_154 0 6 (dk_at dksX0_level_0 4 rfl rfl)
theorem dX0_level_7 : decode cX0_level 7 = .ok (.bipush (-2), 2) := dk_16 254 (dk_at dksX0_level_0 7 rfl rfl)
theorem dX0_level_9 : decode cX0_level 9 = .ok (.ireturn, 1) := dk_172 (dk_at dksX0_level_0 9 rfl rfl)
theorem dX0_level_10 : decode cX0_level 10 = .ok (.aload_n 0, 1) := dk_42 (dk_at dksX0_level_0 10 rfl rfl)
theorem dX0_level_11 : decode cX0_level 11 = .ok (.getfield 61, 3) := dk_180 0 61 (dk_at dksX0_level_0 11 rfl rfl)
theorem dX0_level_14 : decode cX0_level 14 = .ok (.ifCond .ne 8, 3) := dk_154 0 8 (dk_at dksX0_level_0 14 rfl rfl)
theorem dX0_level_17 : decode cX0_level 17 = .ok (.bipush (-3), 2) := dk_16 253 (dk_at dksX0_level_0 17 rfl rfl)
theorem dX0_level_19 : decode cX0_level 19 = .ok (.goto 8, 3) := dk_167 0 8 (dk_at dksX0_level_0 19 rfl rfl)
theorem dX0_level_22 : decode cX0_level 22 = .ok (.aload_n 0, 1) := dk_42 (dk_at dksX0_level_0 22 rfl rfl)
theorem dX0_level_23 : decode cX0_level 23 = .ok (.iload_n 1, 1) := dk_27 (dk_at dksX0_level_0 23 rfl rfl)
theorem dX0_level_24 : decode cX0_level 24 = .ok (.invokevirtual 135, 3) := dk_182 0 135 (dk_at dksX0_level_1 0 rfl rfl)
theorem dX0_level_27 : decode cX0_level 27 = .ok (.ireturn, 1) := dk_172 (dk_at dksX0_level_1 3 rfl rfl)
abbrev cX0_levelIn : ByteArray := prog_1_method_13_code
def yX0_levelIn : MethodName := ⟨RX0, "levelIn", "(I)I"⟩
def dkwX0_levelIn_1 : List UInt8 := [185, 0, 112, 2, 0, 192, 0, 92, 27, 182, 0, 132, 96, 61, 132, 3, 1, 167, 255, 220, 28, 172]
abbrev dktX0_levelIn_1 : List UInt8 := dkwX0_levelIn_1 ++ []
def dkwX0_levelIn_0 : List UInt8 := [3, 61, 3, 62, 29, 42, 180, 0, 24, 185, 0, 65, 1, 0, 162, 0, 29, 28, 42, 180, 0, 24, 29]
abbrev dktX0_levelIn_0 : List UInt8 := dkwX0_levelIn_0 ++ dktX0_levelIn_1
theorem dksX0_levelIn_0 : cX0_levelIn.data.toList.drop 0 = dktX0_levelIn_0 := by decide +kernel
theorem dksX0_levelIn_1 : cX0_levelIn.data.toList.drop 23 = dktX0_levelIn_1 := dk_seg dksX0_levelIn_0 23 rfl rfl
theorem dX0_levelIn_0 : decode cX0_levelIn 0 = .ok (.iconst 0, 1) := dk_3 (dk_at dksX0_levelIn_0 0 rfl rfl)
theorem dX0_levelIn_1 : decode cX0_levelIn 1 = .ok (.istore_n 2, 1) := dk_61 (dk_at dksX0_levelIn_0 1 rfl rfl)
theorem dX0_levelIn_2 : decode cX0_levelIn 2 = .ok (.iconst 0, 1) := dk_3 (dk_at dksX0_levelIn_0 2 rfl rfl)
theorem dX0_levelIn_3 : decode cX0_levelIn 3 = .ok (.istore_n 3, 1) := dk_62 (dk_at dksX0_levelIn_0 3 rfl rfl)
theorem dX0_levelIn_4 : decode cX0_levelIn 4 = .ok (.iload_n 3, 1) := dk_29 (dk_at dksX0_levelIn_0 4 rfl rfl)
theorem dX0_levelIn_5 : decode cX0_levelIn 5 = .ok (.aload_n 0, 1) := dk_42 (dk_at dksX0_levelIn_0 5 rfl rfl)
theorem dX0_levelIn_6 : decode cX0_levelIn 6 = .ok (.getfield 24, 3) := dk_180 0 24 (dk_at dksX0_levelIn_0 6 rfl rfl)
theorem dX0_levelIn_9 : decode cX0_levelIn 9 = .ok (.invokeinterface 65 1, 5) := by decide +kernel
theorem dX0_levelIn_14 : decode cX0_levelIn 14 = .ok (.if_icmp .ge 29, 3) := dk_162 0 29 (dk_at dksX0_levelIn_0 14 rfl rfl)
theorem dX0_levelIn_17 : decode cX0_levelIn 17 = .ok (.iload_n 2, 1) := dk_28 (dk_at dksX0_levelIn_0 17 rfl rfl)
theorem dX0_levelIn_18 : decode cX0_levelIn 18 = .ok (.aload_n 0, 1) := dk_42 (dk_at dksX0_levelIn_0 18 rfl rfl)
theorem dX0_levelIn_19 : decode cX0_levelIn 19 = .ok (.getfield 24, 3) := dk_180 0 24 (dk_at dksX0_levelIn_0 19 rfl rfl)
theorem dX0_levelIn_22 : decode cX0_levelIn 22 = .ok (.iload_n 3, 1) := dk_29 (dk_at dksX0_levelIn_0 22 rfl rfl)
theorem dX0_levelIn_23 : decode cX0_levelIn 23 = .ok (.invokeinterface 112 2, 5) := by decide +kernel
theorem dX0_levelIn_28 : decode cX0_levelIn 28 = .ok (.checkcast 92, 3) := dk_192 0 92 (dk_at dksX0_levelIn_1 5 rfl rfl)
theorem dX0_levelIn_31 : decode cX0_levelIn 31 = .ok (.iload_n 1, 1) := dk_27 (dk_at dksX0_levelIn_1 8 rfl rfl)
theorem dX0_levelIn_32 : decode cX0_levelIn 32 = .ok (.invokevirtual 132, 3) := dk_182 0 132 (dk_at dksX0_levelIn_1 9 rfl rfl)
theorem dX0_levelIn_35 : decode cX0_levelIn 35 = .ok (.iadd, 1) := dk_96 (dk_at dksX0_levelIn_1 12 rfl rfl)
theorem dX0_levelIn_36 : decode cX0_levelIn 36 = .ok (.istore_n 2, 1) := dk_61 (dk_at dksX0_levelIn_1 13 rfl rfl)
theorem dX0_levelIn_37 : decode cX0_levelIn 37 = .ok (.iinc 3 1, 3) := dk_132 3 1 (dk_at dksX0_levelIn_1 14 rfl rfl)
theorem dX0_levelIn_40 : decode cX0_levelIn 40 = .ok (.goto (-36), 3) := dk_167 255 220 (dk_at dksX0_levelIn_1 17 rfl rfl)
theorem dX0_levelIn_43 : decode cX0_levelIn 43 = .ok (.iload_n 2, 1) := dk_28 (dk_at dksX0_levelIn_1 20 rfl rfl)
theorem dX0_levelIn_44 : decode cX0_levelIn 44 = .ok (.ireturn, 1) := dk_172 (dk_at dksX0_levelIn_1 21 rfl rfl)
abbrev cX0_again : ByteArray := prog_1_method_16_code
def yX0_again : MethodName := ⟨RX0, "again", "()I"⟩
def dkwX0_again_3 : List UInt8 := [182, 0, 138, 154, 0, 9, 132, 2, 1, 167, 255, 238, 28, 172]
abbrev dktX0_again_3 : List UInt8 := dkwX0_again_3 ++ []
def dkwX0_again_2 : List UInt8 := [184, 0, 5, 108, 29, 104, 60, 132, 2, 1, 167, 255, 213, 4, 61, 27, 28, 112, 154, 0, 12, 42, 28, 27]
abbrev dktX0_again_2 : List UInt8 := dkwX0_again_2 ++ dktX0_again_3
def dkwX0_again_1 : List UInt8 := [162, 0, 36, 42, 180, 0, 24, 28, 185, 0, 112, 2, 0, 192, 0, 92, 180, 0, 116, 62, 27, 27, 29]
abbrev dktX0_again_1 : List UInt8 := dkwX0_again_1 ++ dktX0_again_2
def dkwX0_again_0 : List UInt8 := [42, 180, 0, 61, 154, 0, 6, 16, 253, 172, 4, 60, 3, 61, 28, 42, 180, 0, 24, 185, 0, 65, 1, 0]
abbrev dktX0_again_0 : List UInt8 := dkwX0_again_0 ++ dktX0_again_1
theorem dksX0_again_0 : cX0_again.data.toList.drop 0 = dktX0_again_0 := by decide +kernel
theorem dksX0_again_1 : cX0_again.data.toList.drop 24 = dktX0_again_1 := dk_seg dksX0_again_0 24 rfl rfl
theorem dksX0_again_2 : cX0_again.data.toList.drop 47 = dktX0_again_2 := dk_seg dksX0_again_1 23 rfl rfl
theorem dksX0_again_3 : cX0_again.data.toList.drop 71 = dktX0_again_3 := dk_seg dksX0_again_2 24 rfl rfl
theorem dX0_again_0 : decode cX0_again 0 = .ok (.aload_n 0, 1) := dk_42 (dk_at dksX0_again_0 0 rfl rfl)
theorem dX0_again_1 : decode cX0_again 1 = .ok (.getfield 61, 3) := dk_180 0 61 (dk_at dksX0_again_0 1 rfl rfl)
theorem dX0_again_4 : decode cX0_again 4 = .ok (.ifCond .ne 6, 3) := dk_154 0 6 (dk_at dksX0_again_0 4 rfl rfl)
theorem dX0_again_7 : decode cX0_again 7 = .ok (.bipush (-3), 2) := dk_16 253 (dk_at dksX0_again_0 7 rfl rfl)
theorem dX0_again_9 : decode cX0_again 9 = .ok (.ireturn, 1) := dk_172 (dk_at dksX0_again_0 9 rfl rfl)
theorem dX0_again_10 : decode cX0_again 10 = .ok (.iconst 1, 1) := dk_4 (dk_at dksX0_again_0 10 rfl rfl)
theorem dX0_again_11 : decode cX0_again 11 = .ok (.istore_n 1, 1) := dk_60 (dk_at dksX0_again_0 11 rfl rfl)
theorem dX0_again_12 : decode cX0_again 12 = .ok (.iconst 0, 1) := dk_3 (dk_at dksX0_again_0 12 rfl rfl)
theorem dX0_again_13 : decode cX0_again 13 = .ok (.istore_n 2, 1) := dk_61 (dk_at dksX0_again_0 13 rfl rfl)
theorem dX0_again_14 : decode cX0_again 14 = .ok (.iload_n 2, 1) := dk_28 (dk_at dksX0_again_0 14 rfl rfl)
theorem dX0_again_15 : decode cX0_again 15 = .ok (.aload_n 0, 1) := dk_42 (dk_at dksX0_again_0 15 rfl rfl)
theorem dX0_again_16 : decode cX0_again 16 = .ok (.getfield 24, 3) := dk_180 0 24 (dk_at dksX0_again_0 16 rfl rfl)
theorem dX0_again_19 : decode cX0_again 19 = .ok (.invokeinterface 65 1, 5) := by decide +kernel
theorem dX0_again_24 : decode cX0_again 24 = .ok (.if_icmp .ge 36, 3) := dk_162 0 36 (dk_at dksX0_again_1 0 rfl rfl)
theorem dX0_again_27 : decode cX0_again 27 = .ok (.aload_n 0, 1) := dk_42 (dk_at dksX0_again_1 3 rfl rfl)
theorem dX0_again_28 : decode cX0_again 28 = .ok (.getfield 24, 3) := dk_180 0 24 (dk_at dksX0_again_1 4 rfl rfl)
theorem dX0_again_31 : decode cX0_again 31 = .ok (.iload_n 2, 1) := dk_28 (dk_at dksX0_again_1 7 rfl rfl)
theorem dX0_again_32 : decode cX0_again 32 = .ok (.invokeinterface 112 2, 5) := by decide +kernel
theorem dX0_again_37 : decode cX0_again 37 = .ok (.checkcast 92, 3) := dk_192 0 92 (dk_at dksX0_again_1 13 rfl rfl)
theorem dX0_again_40 : decode cX0_again 40 = .ok (.getfield 116, 3) := dk_180 0 116 (dk_at dksX0_again_1 16 rfl rfl)
theorem dX0_again_43 : decode cX0_again 43 = .ok (.istore_n 3, 1) := dk_62 (dk_at dksX0_again_1 19 rfl rfl)
theorem dX0_again_44 : decode cX0_again 44 = .ok (.iload_n 1, 1) := dk_27 (dk_at dksX0_again_1 20 rfl rfl)
theorem dX0_again_45 : decode cX0_again 45 = .ok (.iload_n 1, 1) := dk_27 (dk_at dksX0_again_1 21 rfl rfl)
theorem dX0_again_46 : decode cX0_again 46 = .ok (.iload_n 3, 1) := dk_29 (dk_at dksX0_again_1 22 rfl rfl)
theorem dX0_again_47 : decode cX0_again 47 = .ok (.invokestatic 5, 3) := dk_184 0 5 (dk_at dksX0_again_2 0 rfl rfl)
theorem dX0_again_50 : decode cX0_again 50 = .ok (.idiv, 1) := dk_108 (dk_at dksX0_again_2 3 rfl rfl)
theorem dX0_again_51 : decode cX0_again 51 = .ok (.iload_n 3, 1) := dk_29 (dk_at dksX0_again_2 4 rfl rfl)
theorem dX0_again_52 : decode cX0_again 52 = .ok (.imul, 1) := dk_104 (dk_at dksX0_again_2 5 rfl rfl)
theorem dX0_again_53 : decode cX0_again 53 = .ok (.istore_n 1, 1) := dk_60 (dk_at dksX0_again_2 6 rfl rfl)
theorem dX0_again_54 : decode cX0_again 54 = .ok (.iinc 2 1, 3) := dk_132 2 1 (dk_at dksX0_again_2 7 rfl rfl)
theorem dX0_again_57 : decode cX0_again 57 = .ok (.goto (-43), 3) := dk_167 255 213 (dk_at dksX0_again_2 10 rfl rfl)
theorem dX0_again_60 : decode cX0_again 60 = .ok (.iconst 1, 1) := dk_4 (dk_at dksX0_again_2 13 rfl rfl)
theorem dX0_again_61 : decode cX0_again 61 = .ok (.istore_n 2, 1) := dk_61 (dk_at dksX0_again_2 14 rfl rfl)
theorem dX0_again_62 : decode cX0_again 62 = .ok (.iload_n 1, 1) := dk_27 (dk_at dksX0_again_2 15 rfl rfl)
theorem dX0_again_63 : decode cX0_again 63 = .ok (.iload_n 2, 1) := dk_28 (dk_at dksX0_again_2 16 rfl rfl)
theorem dX0_again_64 : decode cX0_again 64 = .ok (.irem, 1) := dk_112 (dk_at dksX0_again_2 17 rfl rfl)
theorem dX0_again_65 : decode cX0_again 65 = .ok (.ifCond .ne 12, 3) := dk_154 0 12 (dk_at dksX0_again_2 18 rfl rfl)
theorem dX0_again_68 : decode cX0_again 68 = .ok (.aload_n 0, 1) := dk_42 (dk_at dksX0_again_2 21 rfl rfl)
theorem dX0_again_69 : decode cX0_again 69 = .ok (.iload_n 2, 1) := dk_28 (dk_at dksX0_again_2 22 rfl rfl)
theorem dX0_again_70 : decode cX0_again 70 = .ok (.iload_n 1, 1) := dk_27 (dk_at dksX0_again_2 23 rfl rfl)
theorem dX0_again_71 : decode cX0_again 71 = .ok (.invokevirtual 138, 3) := dk_182 0 138 (dk_at dksX0_again_3 0 rfl rfl)
theorem dX0_again_74 : decode cX0_again 74 = .ok (.ifCond .ne 9, 3) := dk_154 0 9 (dk_at dksX0_again_3 3 rfl rfl)
theorem dX0_again_77 : decode cX0_again 77 = .ok (.iinc 2 1, 3) := dk_132 2 1 (dk_at dksX0_again_3 6 rfl rfl)
theorem dX0_again_80 : decode cX0_again 80 = .ok (.goto (-18), 3) := dk_167 255 238 (dk_at dksX0_again_3 9 rfl rfl)
theorem dX0_again_83 : decode cX0_again 83 = .ok (.iload_n 2, 1) := dk_28 (dk_at dksX0_again_3 12 rfl rfl)
theorem dX0_again_84 : decode cX0_again 84 = .ok (.ireturn, 1) := dk_172 (dk_at dksX0_again_3 13 rfl rfl)
abbrev cX0_common : ByteArray := prog_1_method_3_code
def yX0_common : MethodName := ⟨RX0, "common", "(II)I"⟩
def dkwX0_common_0 : List UInt8 := [27, 154, 0, 7, 26, 167, 0, 10, 27, 26, 27, 112, 184, 0, 5, 172]
abbrev dktX0_common_0 : List UInt8 := dkwX0_common_0 ++ []
theorem dksX0_common_0 : cX0_common.data.toList.drop 0 = dktX0_common_0 := by decide +kernel
theorem dX0_common_0 : decode cX0_common 0 = .ok (.iload_n 1, 1) := dk_27 (dk_at dksX0_common_0 0 rfl rfl)
theorem dX0_common_1 : decode cX0_common 1 = .ok (.ifCond .ne 7, 3) := dk_154 0 7 (dk_at dksX0_common_0 1 rfl rfl)
theorem dX0_common_4 : decode cX0_common 4 = .ok (.iload_n 0, 1) := dk_26 (dk_at dksX0_common_0 4 rfl rfl)
theorem dX0_common_5 : decode cX0_common 5 = .ok (.goto 10, 3) := dk_167 0 10 (dk_at dksX0_common_0 5 rfl rfl)
theorem dX0_common_8 : decode cX0_common 8 = .ok (.iload_n 1, 1) := dk_27 (dk_at dksX0_common_0 8 rfl rfl)
theorem dX0_common_9 : decode cX0_common 9 = .ok (.iload_n 0, 1) := dk_26 (dk_at dksX0_common_0 9 rfl rfl)
theorem dX0_common_10 : decode cX0_common 10 = .ok (.iload_n 1, 1) := dk_27 (dk_at dksX0_common_0 10 rfl rfl)
theorem dX0_common_11 : decode cX0_common 11 = .ok (.irem, 1) := dk_112 (dk_at dksX0_common_0 11 rfl rfl)
theorem dX0_common_12 : decode cX0_common 12 = .ok (.invokestatic 5, 3) := dk_184 0 5 (dk_at dksX0_common_0 12 rfl rfl)
theorem dX0_common_15 : decode cX0_common 15 = .ok (.ireturn, 1) := dk_172 (dk_at dksX0_common_0 15 rfl rfl)
abbrev cX0_isAgain : ByteArray := prog_1_method_15_code
def yX0_isAgain : MethodName := ⟨RX0, "isAgain", "(II)Z"⟩
def dkwX0_isAgain_1 : List UInt8 := [132, 3, 1, 167, 255, 231, 4, 172]
abbrev dktX0_isAgain_1 : List UInt8 := dkwX0_isAgain_1 ++ []
def dkwX0_isAgain_0 : List UInt8 := [3, 62, 29, 28, 162, 0, 26, 42, 29, 182, 0, 135, 42, 29, 27, 96, 182, 0, 135, 159, 0, 5, 3, 172]
abbrev dktX0_isAgain_0 : List UInt8 := dkwX0_isAgain_0 ++ dktX0_isAgain_1
theorem dksX0_isAgain_0 : cX0_isAgain.data.toList.drop 0 = dktX0_isAgain_0 := by decide +kernel
theorem dksX0_isAgain_1 : cX0_isAgain.data.toList.drop 24 = dktX0_isAgain_1 := dk_seg dksX0_isAgain_0 24 rfl rfl
theorem dX0_isAgain_0 : decode cX0_isAgain 0 = .ok (.iconst 0, 1) := dk_3 (dk_at dksX0_isAgain_0 0 rfl rfl)
theorem dX0_isAgain_1 : decode cX0_isAgain 1 = .ok (.istore_n 3, 1) := dk_62 (dk_at dksX0_isAgain_0 1 rfl rfl)
theorem dX0_isAgain_2 : decode cX0_isAgain 2 = .ok (.iload_n 3, 1) := dk_29 (dk_at dksX0_isAgain_0 2 rfl rfl)
theorem dX0_isAgain_3 : decode cX0_isAgain 3 = .ok (.iload_n 2, 1) := dk_28 (dk_at dksX0_isAgain_0 3 rfl rfl)
theorem dX0_isAgain_4 : decode cX0_isAgain 4 = .ok (.if_icmp .ge 26, 3) := dk_162 0 26 (dk_at dksX0_isAgain_0 4 rfl rfl)
theorem dX0_isAgain_7 : decode cX0_isAgain 7 = .ok (.aload_n 0, 1) := dk_42 (dk_at dksX0_isAgain_0 7 rfl rfl)
theorem dX0_isAgain_8 : decode cX0_isAgain 8 = .ok (.iload_n 3, 1) := dk_29 (dk_at dksX0_isAgain_0 8 rfl rfl)
theorem dX0_isAgain_9 : decode cX0_isAgain 9 = .ok (.invokevirtual 135, 3) := dk_182 0 135 (dk_at dksX0_isAgain_0 9 rfl rfl)
theorem dX0_isAgain_12 : decode cX0_isAgain 12 = .ok (.aload_n 0, 1) := dk_42 (dk_at dksX0_isAgain_0 12 rfl rfl)
theorem dX0_isAgain_13 : decode cX0_isAgain 13 = .ok (.iload_n 3, 1) := dk_29 (dk_at dksX0_isAgain_0 13 rfl rfl)
theorem dX0_isAgain_14 : decode cX0_isAgain 14 = .ok (.iload_n 1, 1) := dk_27 (dk_at dksX0_isAgain_0 14 rfl rfl)
theorem dX0_isAgain_15 : decode cX0_isAgain 15 = .ok (.iadd, 1) := dk_96 (dk_at dksX0_isAgain_0 15 rfl rfl)
theorem dX0_isAgain_16 : decode cX0_isAgain 16 = .ok (.invokevirtual 135, 3) := dk_182 0 135 (dk_at dksX0_isAgain_0 16 rfl rfl)
theorem dX0_isAgain_19 : decode cX0_isAgain 19 = .ok (.if_icmp .eq 5, 3) := dk_159 0 5 (dk_at dksX0_isAgain_0 19 rfl rfl)
theorem dX0_isAgain_22 : decode cX0_isAgain 22 = .ok (.iconst 0, 1) := dk_3 (dk_at dksX0_isAgain_0 22 rfl rfl)
theorem dX0_isAgain_23 : decode cX0_isAgain 23 = .ok (.ireturn, 1) := dk_172 (dk_at dksX0_isAgain_0 23 rfl rfl)
theorem dX0_isAgain_24 : decode cX0_isAgain 24 = .ok (.iinc 3 1, 3) := dk_132 3 1 (dk_at dksX0_isAgain_1 0 rfl rfl)
theorem dX0_isAgain_27 : decode cX0_isAgain 27 = .ok (.goto (-25), 3) := dk_167 255 231 (dk_at dksX0_isAgain_1 3 rfl rfl)
theorem dX0_isAgain_30 : decode cX0_isAgain 30 = .ok (.iconst 1, 1) := dk_4 (dk_at dksX0_isAgain_1 6 rfl rfl)
theorem dX0_isAgain_31 : decode cX0_isAgain 31 = .ok (.ireturn, 1) := dk_172 (dk_at dksX0_isAgain_1 7 rfl rfl)
abbrev cX0_road : ByteArray := prog_1_method_18_code
def yX0_road : MethodName := ⟨RX0, "road", "(IIIII)I"⟩
def dkwX0_road_7 : List UInt8 := [172]
abbrev dktX0_road_7 : List UInt8 := dkwX0_road_7 ++ []
def dkwX0_road_6 : List UInt8 := [187, 0, 155, 89, 42, 21, 6, 28, 29, 21, 4, 21, 5, 183, 0, 157, 185, 0, 97, 2, 0, 87, 21, 6]
abbrev dktX0_road_6 : List UInt8 := dkwX0_road_6 ++ dktX0_road_7
def dkwX0_road_5 : List UInt8 := [160, 0, 22, 187, 0, 152, 89, 42, 21, 6, 28, 29, 21, 4, 21, 5, 183, 0, 154, 167, 0, 19]
abbrev dktX0_road_5 : List UInt8 := dkwX0_road_5 ++ dktX0_road_6
def dkwX0_road_4 : List UInt8 := [154, 0, 22, 187, 0, 147, 89, 42, 21, 6, 28, 29, 21, 4, 21, 5, 183, 0, 149, 167, 0, 43, 27, 4]
abbrev dktX0_road_4 : List UInt8 := dkwX0_road_4 ++ dktX0_road_5
def dkwX0_road_3 : List UInt8 := [185, 0, 65, 1, 0, 54, 6, 21, 6, 16, 10, 160, 0, 6, 16, 252, 172, 42, 180, 0, 28, 27]
abbrev dktX0_road_3 : List UInt8 := dkwX0_road_3 ++ dktX0_road_4
def dkwX0_road_2 : List UInt8 := [21, 5, 133, 10, 20, 0, 79, 184, 0, 11, 154, 0, 6, 16, 254, 172, 42, 180, 0, 28]
abbrev dktX0_road_2 : List UInt8 := dkwX0_road_2 ++ dktX0_road_3
def dkwX0_road_1 : List UInt8 := [133, 9, 20, 0, 77, 184, 0, 11, 153, 0, 29, 21, 4, 133, 9, 20, 0, 145, 184, 0, 11, 153, 0, 16]
abbrev dktX0_road_1 : List UInt8 := dkwX0_road_1 ++ dktX0_road_2
def dkwX0_road_0 : List UInt8 := [42, 28, 182, 0, 142, 154, 0, 16, 42, 29, 182, 0, 142, 154, 0, 8, 28, 29, 160, 0, 5, 2, 172, 27]
abbrev dktX0_road_0 : List UInt8 := dkwX0_road_0 ++ dktX0_road_1
theorem dksX0_road_0 : cX0_road.data.toList.drop 0 = dktX0_road_0 := by decide +kernel
theorem dksX0_road_1 : cX0_road.data.toList.drop 24 = dktX0_road_1 := dk_seg dksX0_road_0 24 rfl rfl
theorem dksX0_road_2 : cX0_road.data.toList.drop 48 = dktX0_road_2 := dk_seg dksX0_road_1 24 rfl rfl
theorem dksX0_road_3 : cX0_road.data.toList.drop 68 = dktX0_road_3 := dk_seg dksX0_road_2 20 rfl rfl
theorem dksX0_road_4 : cX0_road.data.toList.drop 90 = dktX0_road_4 := dk_seg dksX0_road_3 22 rfl rfl
theorem dksX0_road_5 : cX0_road.data.toList.drop 114 = dktX0_road_5 := dk_seg dksX0_road_4 24 rfl rfl
theorem dksX0_road_6 : cX0_road.data.toList.drop 136 = dktX0_road_6 := dk_seg dksX0_road_5 22 rfl rfl
theorem dksX0_road_7 : cX0_road.data.toList.drop 160 = dktX0_road_7 := dk_seg dksX0_road_6 24 rfl rfl
theorem dX0_road_0 : decode cX0_road 0 = .ok (.aload_n 0, 1) := dk_42 (dk_at dksX0_road_0 0 rfl rfl)
theorem dX0_road_1 : decode cX0_road 1 = .ok (.iload_n 2, 1) := dk_28 (dk_at dksX0_road_0 1 rfl rfl)
theorem dX0_road_2 : decode cX0_road 2 = .ok (.invokevirtual 142, 3) := dk_182 0 142 (dk_at dksX0_road_0 2 rfl rfl)
theorem dX0_road_5 : decode cX0_road 5 = .ok (.ifCond .ne 16, 3) := dk_154 0 16 (dk_at dksX0_road_0 5 rfl rfl)
theorem dX0_road_8 : decode cX0_road 8 = .ok (.aload_n 0, 1) := dk_42 (dk_at dksX0_road_0 8 rfl rfl)
theorem dX0_road_9 : decode cX0_road 9 = .ok (.iload_n 3, 1) := dk_29 (dk_at dksX0_road_0 9 rfl rfl)
theorem dX0_road_10 : decode cX0_road 10 = .ok (.invokevirtual 142, 3) := dk_182 0 142 (dk_at dksX0_road_0 10 rfl rfl)
theorem dX0_road_13 : decode cX0_road 13 = .ok (.ifCond .ne 8, 3) := dk_154 0 8 (dk_at dksX0_road_0 13 rfl rfl)
theorem dX0_road_16 : decode cX0_road 16 = .ok (.iload_n 2, 1) := dk_28 (dk_at dksX0_road_0 16 rfl rfl)
theorem dX0_road_17 : decode cX0_road 17 = .ok (.iload_n 3, 1) := dk_29 (dk_at dksX0_road_0 17 rfl rfl)
theorem dX0_road_18 : decode cX0_road 18 = .ok (.if_icmp .ne 5, 3) := dk_160 0 5 (dk_at dksX0_road_0 18 rfl rfl)
theorem dX0_road_21 : decode cX0_road 21 = .ok (.iconst (-1), 1) := dk_2 (dk_at dksX0_road_0 21 rfl rfl)
theorem dX0_road_22 : decode cX0_road 22 = .ok (.ireturn, 1) := dk_172 (dk_at dksX0_road_0 22 rfl rfl)
theorem dX0_road_23 : decode cX0_road 23 = .ok (.iload_n 1, 1) := dk_27 (dk_at dksX0_road_0 23 rfl rfl)
theorem dX0_road_24 : decode cX0_road 24 = .ok (.i2l, 1) := dk_133 (dk_at dksX0_road_1 0 rfl rfl)
theorem dX0_road_25 : decode cX0_road 25 = .ok (.lconst 0, 1) := dk_9 (dk_at dksX0_road_1 1 rfl rfl)
theorem dX0_road_26 : decode cX0_road 26 = .ok (.ldc2_w 77, 3) := dk_20 0 77 (dk_at dksX0_road_1 2 rfl rfl)
theorem dX0_road_29 : decode cX0_road 29 = .ok (.invokestatic 11, 3) := dk_184 0 11 (dk_at dksX0_road_1 5 rfl rfl)
theorem dX0_road_32 : decode cX0_road 32 = .ok (.ifCond .eq 29, 3) := dk_153 0 29 (dk_at dksX0_road_1 8 rfl rfl)
theorem dX0_road_35 : decode cX0_road 35 = .ok (.iload 4, 2) := dk_21 4 (dk_at dksX0_road_1 11 rfl rfl)
theorem dX0_road_37 : decode cX0_road 37 = .ok (.i2l, 1) := dk_133 (dk_at dksX0_road_1 13 rfl rfl)
theorem dX0_road_38 : decode cX0_road 38 = .ok (.lconst 0, 1) := dk_9 (dk_at dksX0_road_1 14 rfl rfl)
theorem dX0_road_39 : decode cX0_road 39 = .ok (.ldc2_w 145, 3) := dk_20 0 145 (dk_at dksX0_road_1 15 rfl rfl)
theorem dX0_road_42 : decode cX0_road 42 = .ok (.invokestatic 11, 3) := dk_184 0 11 (dk_at dksX0_road_1 18 rfl rfl)
theorem dX0_road_45 : decode cX0_road 45 = .ok (.ifCond .eq 16, 3) := dk_153 0 16 (dk_at dksX0_road_1 21 rfl rfl)
theorem dX0_road_48 : decode cX0_road 48 = .ok (.iload 5, 2) := dk_21 5 (dk_at dksX0_road_2 0 rfl rfl)
theorem dX0_road_50 : decode cX0_road 50 = .ok (.i2l, 1) := dk_133 (dk_at dksX0_road_2 2 rfl rfl)
theorem dX0_road_51 : decode cX0_road 51 = .ok (.lconst 1, 1) := dk_10 (dk_at dksX0_road_2 3 rfl rfl)
theorem dX0_road_52 : decode cX0_road 52 = .ok (.ldc2_w 79, 3) := dk_20 0 79 (dk_at dksX0_road_2 4 rfl rfl)
theorem dX0_road_55 : decode cX0_road 55 = .ok (.invokestatic 11, 3) := dk_184 0 11 (dk_at dksX0_road_2 7 rfl rfl)
theorem dX0_road_58 : decode cX0_road 58 = .ok (.ifCond .ne 6, 3) := dk_154 0 6 (dk_at dksX0_road_2 10 rfl rfl)
theorem dX0_road_61 : decode cX0_road 61 = .ok (.bipush (-2), 2) := dk_16 254 (dk_at dksX0_road_2 13 rfl rfl)
theorem dX0_road_63 : decode cX0_road 63 = .ok (.ireturn, 1) := dk_172 (dk_at dksX0_road_2 15 rfl rfl)
theorem dX0_road_64 : decode cX0_road 64 = .ok (.aload_n 0, 1) := dk_42 (dk_at dksX0_road_2 16 rfl rfl)
theorem dX0_road_65 : decode cX0_road 65 = .ok (.getfield 28, 3) := dk_180 0 28 (dk_at dksX0_road_2 17 rfl rfl)
theorem dX0_road_68 : decode cX0_road 68 = .ok (.invokeinterface 65 1, 5) := by decide +kernel
theorem dX0_road_73 : decode cX0_road 73 = .ok (.istore 6, 2) := dk_54 6 (dk_at dksX0_road_3 5 rfl rfl)
theorem dX0_road_75 : decode cX0_road 75 = .ok (.iload 6, 2) := dk_21 6 (dk_at dksX0_road_3 7 rfl rfl)
theorem dX0_road_77 : decode cX0_road 77 = .ok (.bipush 10, 2) := dk_16 10 (dk_at dksX0_road_3 9 rfl rfl)
theorem dX0_road_79 : decode cX0_road 79 = .ok (.if_icmp .ne 6, 3) := dk_160 0 6 (dk_at dksX0_road_3 11 rfl rfl)
theorem dX0_road_82 : decode cX0_road 82 = .ok (.bipush (-4), 2) := dk_16 252 (dk_at dksX0_road_3 14 rfl rfl)
theorem dX0_road_84 : decode cX0_road 84 = .ok (.ireturn, 1) := dk_172 (dk_at dksX0_road_3 16 rfl rfl)
theorem dX0_road_85 : decode cX0_road 85 = .ok (.aload_n 0, 1) := dk_42 (dk_at dksX0_road_3 17 rfl rfl)
theorem dX0_road_86 : decode cX0_road 86 = .ok (.getfield 28, 3) := dk_180 0 28 (dk_at dksX0_road_3 18 rfl rfl)
theorem dX0_road_89 : decode cX0_road 89 = .ok (.iload_n 1, 1) := dk_27 (dk_at dksX0_road_3 21 rfl rfl)
theorem dX0_road_90 : decode cX0_road 90 = .ok (.ifCond .ne 22, 3) := dk_154 0 22 (dk_at dksX0_road_4 0 rfl rfl)
theorem dX0_road_93 : decode cX0_road 93 = .ok (.new 147, 3) := dk_187 0 147 (dk_at dksX0_road_4 3 rfl rfl)
theorem dX0_road_96 : decode cX0_road 96 = .ok (.dup, 1) := dk_89 (dk_at dksX0_road_4 6 rfl rfl)
theorem dX0_road_97 : decode cX0_road 97 = .ok (.aload_n 0, 1) := dk_42 (dk_at dksX0_road_4 7 rfl rfl)
theorem dX0_road_98 : decode cX0_road 98 = .ok (.iload 6, 2) := dk_21 6 (dk_at dksX0_road_4 8 rfl rfl)
theorem dX0_road_100 : decode cX0_road 100 = .ok (.iload_n 2, 1) := dk_28 (dk_at dksX0_road_4 10 rfl rfl)
theorem dX0_road_101 : decode cX0_road 101 = .ok (.iload_n 3, 1) := dk_29 (dk_at dksX0_road_4 11 rfl rfl)
theorem dX0_road_102 : decode cX0_road 102 = .ok (.iload 4, 2) := dk_21 4 (dk_at dksX0_road_4 12 rfl rfl)
theorem dX0_road_104 : decode cX0_road 104 = .ok (.iload 5, 2) := dk_21 5 (dk_at dksX0_road_4 14 rfl rfl)
theorem dX0_road_106 : decode cX0_road 106 = .ok (.invokespecial 149, 3) := dk_183 0 149 (dk_at dksX0_road_4 16 rfl rfl)
theorem dX0_road_109 : decode cX0_road 109 = .ok (.goto 43, 3) := dk_167 0 43 (dk_at dksX0_road_4 19 rfl rfl)
theorem dX0_road_112 : decode cX0_road 112 = .ok (.iload_n 1, 1) := dk_27 (dk_at dksX0_road_4 22 rfl rfl)
theorem dX0_road_113 : decode cX0_road 113 = .ok (.iconst 1, 1) := dk_4 (dk_at dksX0_road_4 23 rfl rfl)
theorem dX0_road_114 : decode cX0_road 114 = .ok (.if_icmp .ne 22, 3) := dk_160 0 22 (dk_at dksX0_road_5 0 rfl rfl)
theorem dX0_road_117 : decode cX0_road 117 = .ok (.new 152, 3) := dk_187 0 152 (dk_at dksX0_road_5 3 rfl rfl)
theorem dX0_road_120 : decode cX0_road 120 = .ok (.dup, 1) := dk_89 (dk_at dksX0_road_5 6 rfl rfl)
theorem dX0_road_121 : decode cX0_road 121 = .ok (.aload_n 0, 1) := dk_42 (dk_at dksX0_road_5 7 rfl rfl)
theorem dX0_road_122 : decode cX0_road 122 = .ok (.iload 6, 2) := dk_21 6 (dk_at dksX0_road_5 8 rfl rfl)
theorem dX0_road_124 : decode cX0_road 124 = .ok (.iload_n 2, 1) := dk_28 (dk_at dksX0_road_5 10 rfl rfl)
theorem dX0_road_125 : decode cX0_road 125 = .ok (.iload_n 3, 1) := dk_29 (dk_at dksX0_road_5 11 rfl rfl)
theorem dX0_road_126 : decode cX0_road 126 = .ok (.iload 4, 2) := dk_21 4 (dk_at dksX0_road_5 12 rfl rfl)
theorem dX0_road_128 : decode cX0_road 128 = .ok (.iload 5, 2) := dk_21 5 (dk_at dksX0_road_5 14 rfl rfl)
theorem dX0_road_130 : decode cX0_road 130 = .ok (.invokespecial 154, 3) := dk_183 0 154 (dk_at dksX0_road_5 16 rfl rfl)
theorem dX0_road_133 : decode cX0_road 133 = .ok (.goto 19, 3) := dk_167 0 19 (dk_at dksX0_road_5 19 rfl rfl)
theorem dX0_road_136 : decode cX0_road 136 = .ok (.new 155, 3) := dk_187 0 155 (dk_at dksX0_road_6 0 rfl rfl)
theorem dX0_road_139 : decode cX0_road 139 = .ok (.dup, 1) := dk_89 (dk_at dksX0_road_6 3 rfl rfl)
theorem dX0_road_140 : decode cX0_road 140 = .ok (.aload_n 0, 1) := dk_42 (dk_at dksX0_road_6 4 rfl rfl)
theorem dX0_road_141 : decode cX0_road 141 = .ok (.iload 6, 2) := dk_21 6 (dk_at dksX0_road_6 5 rfl rfl)
theorem dX0_road_143 : decode cX0_road 143 = .ok (.iload_n 2, 1) := dk_28 (dk_at dksX0_road_6 7 rfl rfl)
theorem dX0_road_144 : decode cX0_road 144 = .ok (.iload_n 3, 1) := dk_29 (dk_at dksX0_road_6 8 rfl rfl)
theorem dX0_road_145 : decode cX0_road 145 = .ok (.iload 4, 2) := dk_21 4 (dk_at dksX0_road_6 9 rfl rfl)
theorem dX0_road_147 : decode cX0_road 147 = .ok (.iload 5, 2) := dk_21 5 (dk_at dksX0_road_6 11 rfl rfl)
theorem dX0_road_149 : decode cX0_road 149 = .ok (.invokespecial 157, 3) := dk_183 0 157 (dk_at dksX0_road_6 13 rfl rfl)
theorem dX0_road_152 : decode cX0_road 152 = .ok (.invokeinterface 97 2, 5) := by decide +kernel
theorem dX0_road_157 : decode cX0_road 157 = .ok (.pop, 1) := dk_87 (dk_at dksX0_road_6 21 rfl rfl)
theorem dX0_road_158 : decode cX0_road 158 = .ok (.iload 6, 2) := dk_21 6 (dk_at dksX0_road_6 22 rfl rfl)
theorem dX0_road_160 : decode cX0_road 160 = .ok (.ireturn, 1) := dk_172 (dk_at dksX0_road_7 0 rfl rfl)
abbrev cX0_noIsland : ByteArray := prog_1_method_6_code
def yX0_noIsland : MethodName := ⟨RX0, "noIsland", "(I)Z"⟩
def dkwX0_noIsland_0 : List UInt8 := [27, 133, 9, 42, 180, 0, 61, 4, 100, 133, 184, 0, 11, 154, 0, 7, 4, 167, 0, 4, 3, 172]
abbrev dktX0_noIsland_0 : List UInt8 := dkwX0_noIsland_0 ++ []
theorem dksX0_noIsland_0 : cX0_noIsland.data.toList.drop 0 = dktX0_noIsland_0 := by decide +kernel
theorem dX0_noIsland_0 : decode cX0_noIsland 0 = .ok (.iload_n 1, 1) := dk_27 (dk_at dksX0_noIsland_0 0 rfl rfl)
theorem dX0_noIsland_1 : decode cX0_noIsland 1 = .ok (.i2l, 1) := dk_133 (dk_at dksX0_noIsland_0 1 rfl rfl)
theorem dX0_noIsland_2 : decode cX0_noIsland 2 = .ok (.lconst 0, 1) := dk_9 (dk_at dksX0_noIsland_0 2 rfl rfl)
theorem dX0_noIsland_3 : decode cX0_noIsland 3 = .ok (.aload_n 0, 1) := dk_42 (dk_at dksX0_noIsland_0 3 rfl rfl)
theorem dX0_noIsland_4 : decode cX0_noIsland 4 = .ok (.getfield 61, 3) := dk_180 0 61 (dk_at dksX0_noIsland_0 4 rfl rfl)
theorem dX0_noIsland_7 : decode cX0_noIsland 7 = .ok (.iconst 1, 1) := dk_4 (dk_at dksX0_noIsland_0 7 rfl rfl)
theorem dX0_noIsland_8 : decode cX0_noIsland 8 = .ok (.isub, 1) := dk_100 (dk_at dksX0_noIsland_0 8 rfl rfl)
theorem dX0_noIsland_9 : decode cX0_noIsland 9 = .ok (.i2l, 1) := dk_133 (dk_at dksX0_noIsland_0 9 rfl rfl)
theorem dX0_noIsland_10 : decode cX0_noIsland 10 = .ok (.invokestatic 11, 3) := dk_184 0 11 (dk_at dksX0_noIsland_0 10 rfl rfl)
theorem dX0_noIsland_13 : decode cX0_noIsland 13 = .ok (.ifCond .ne 7, 3) := dk_154 0 7 (dk_at dksX0_noIsland_0 13 rfl rfl)
theorem dX0_noIsland_16 : decode cX0_noIsland 16 = .ok (.iconst 1, 1) := dk_4 (dk_at dksX0_noIsland_0 16 rfl rfl)
theorem dX0_noIsland_17 : decode cX0_noIsland 17 = .ok (.goto 4, 3) := dk_167 0 4 (dk_at dksX0_noIsland_0 17 rfl rfl)
theorem dX0_noIsland_20 : decode cX0_noIsland 20 = .ok (.iconst 0, 1) := dk_3 (dk_at dksX0_noIsland_0 20 rfl rfl)
theorem dX0_noIsland_21 : decode cX0_noIsland 21 = .ok (.ireturn, 1) := dk_172 (dk_at dksX0_noIsland_0 21 rfl rfl)
abbrev cX0_ofRoad : ByteArray := prog_1_method_19_code
def yX0_ofRoad : MethodName := ⟨RX0, "ofRoad", "(II)I"⟩
def dkwX0_ofRoad_1 : List UInt8 := [192, 0, 147, 28, 182, 0, 161, 172]
abbrev dktX0_ofRoad_1 : List UInt8 := dkwX0_ofRoad_1 ++ []
def dkwX0_ofRoad_0 : List UInt8 := [42, 27, 182, 0, 158, 153, 0, 7, 2, 167, 0, 20, 42, 180, 0, 28, 27, 185, 0, 112, 2, 0]
abbrev dktX0_ofRoad_0 : List UInt8 := dkwX0_ofRoad_0 ++ dktX0_ofRoad_1
theorem dksX0_ofRoad_0 : cX0_ofRoad.data.toList.drop 0 = dktX0_ofRoad_0 := by decide +kernel
theorem dksX0_ofRoad_1 : cX0_ofRoad.data.toList.drop 22 = dktX0_ofRoad_1 := dk_seg dksX0_ofRoad_0 22 rfl rfl
theorem dX0_ofRoad_0 : decode cX0_ofRoad 0 = .ok (.aload_n 0, 1) := dk_42 (dk_at dksX0_ofRoad_0 0 rfl rfl)
theorem dX0_ofRoad_1 : decode cX0_ofRoad 1 = .ok (.iload_n 1, 1) := dk_27 (dk_at dksX0_ofRoad_0 1 rfl rfl)
theorem dX0_ofRoad_2 : decode cX0_ofRoad 2 = .ok (.invokevirtual 158, 3) := dk_182 0 158 (dk_at dksX0_ofRoad_0 2 rfl rfl)
theorem dX0_ofRoad_5 : decode cX0_ofRoad 5 = .ok (.ifCond .eq 7, 3) := dk_153 0 7 (dk_at dksX0_ofRoad_0 5 rfl rfl)
theorem dX0_ofRoad_8 : decode cX0_ofRoad 8 = .ok (.iconst (-1), 1) := dk_2 (dk_at dksX0_ofRoad_0 8 rfl rfl)
theorem dX0_ofRoad_9 : decode cX0_ofRoad 9 = .ok (.goto 20, 3) := dk_167 0 20 (dk_at dksX0_ofRoad_0 9 rfl rfl)
theorem dX0_ofRoad_12 : decode cX0_ofRoad 12 = .ok (.aload_n 0, 1) := dk_42 (dk_at dksX0_ofRoad_0 12 rfl rfl)
theorem dX0_ofRoad_13 : decode cX0_ofRoad 13 = .ok (.getfield 28, 3) := dk_180 0 28 (dk_at dksX0_ofRoad_0 13 rfl rfl)
theorem dX0_ofRoad_16 : decode cX0_ofRoad 16 = .ok (.iload_n 1, 1) := dk_27 (dk_at dksX0_ofRoad_0 16 rfl rfl)
theorem dX0_ofRoad_17 : decode cX0_ofRoad 17 = .ok (.invokeinterface 112 2, 5) := by decide +kernel
theorem dX0_ofRoad_22 : decode cX0_ofRoad 22 = .ok (.checkcast 147, 3) := dk_192 0 147 (dk_at dksX0_ofRoad_1 0 rfl rfl)
theorem dX0_ofRoad_25 : decode cX0_ofRoad 25 = .ok (.iload_n 2, 1) := dk_28 (dk_at dksX0_ofRoad_1 3 rfl rfl)
theorem dX0_ofRoad_26 : decode cX0_ofRoad 26 = .ok (.invokevirtual 161, 3) := dk_182 0 161 (dk_at dksX0_ofRoad_1 4 rfl rfl)
theorem dX0_ofRoad_29 : decode cX0_ofRoad 29 = .ok (.ireturn, 1) := dk_172 (dk_at dksX0_ofRoad_1 7 rfl rfl)
abbrev cX0_noRoad : ByteArray := prog_1_method_17_code
def yX0_noRoad : MethodName := ⟨RX0, "noRoad", "(I)Z"⟩
def dkwX0_noRoad_1 : List UInt8 := [167, 0, 4, 3, 172]
abbrev dktX0_noRoad_1 : List UInt8 := dkwX0_noRoad_1 ++ []
def dkwX0_noRoad_0 : List UInt8 := [27, 133, 9, 42, 180, 0, 28, 185, 0, 65, 1, 0, 4, 100, 133, 184, 0, 11, 154, 0, 7, 4]
abbrev dktX0_noRoad_0 : List UInt8 := dkwX0_noRoad_0 ++ dktX0_noRoad_1
theorem dksX0_noRoad_0 : cX0_noRoad.data.toList.drop 0 = dktX0_noRoad_0 := by decide +kernel
theorem dksX0_noRoad_1 : cX0_noRoad.data.toList.drop 22 = dktX0_noRoad_1 := dk_seg dksX0_noRoad_0 22 rfl rfl
theorem dX0_noRoad_0 : decode cX0_noRoad 0 = .ok (.iload_n 1, 1) := dk_27 (dk_at dksX0_noRoad_0 0 rfl rfl)
theorem dX0_noRoad_1 : decode cX0_noRoad 1 = .ok (.i2l, 1) := dk_133 (dk_at dksX0_noRoad_0 1 rfl rfl)
theorem dX0_noRoad_2 : decode cX0_noRoad 2 = .ok (.lconst 0, 1) := dk_9 (dk_at dksX0_noRoad_0 2 rfl rfl)
theorem dX0_noRoad_3 : decode cX0_noRoad 3 = .ok (.aload_n 0, 1) := dk_42 (dk_at dksX0_noRoad_0 3 rfl rfl)
theorem dX0_noRoad_4 : decode cX0_noRoad 4 = .ok (.getfield 28, 3) := dk_180 0 28 (dk_at dksX0_noRoad_0 4 rfl rfl)
theorem dX0_noRoad_7 : decode cX0_noRoad 7 = .ok (.invokeinterface 65 1, 5) := by decide +kernel
theorem dX0_noRoad_12 : decode cX0_noRoad 12 = .ok (.iconst 1, 1) := dk_4 (dk_at dksX0_noRoad_0 12 rfl rfl)
theorem dX0_noRoad_13 : decode cX0_noRoad 13 = .ok (.isub, 1) := dk_100 (dk_at dksX0_noRoad_0 13 rfl rfl)
theorem dX0_noRoad_14 : decode cX0_noRoad 14 = .ok (.i2l, 1) := dk_133 (dk_at dksX0_noRoad_0 14 rfl rfl)
theorem dX0_noRoad_15 : decode cX0_noRoad 15 = .ok (.invokestatic 11, 3) := dk_184 0 11 (dk_at dksX0_noRoad_0 15 rfl rfl)
theorem dX0_noRoad_18 : decode cX0_noRoad 18 = .ok (.ifCond .ne 7, 3) := dk_154 0 7 (dk_at dksX0_noRoad_0 18 rfl rfl)
theorem dX0_noRoad_21 : decode cX0_noRoad 21 = .ok (.iconst 1, 1) := dk_4 (dk_at dksX0_noRoad_0 21 rfl rfl)
theorem dX0_noRoad_22 : decode cX0_noRoad 22 = .ok (.goto 4, 3) := dk_167 0 4 (dk_at dksX0_noRoad_1 0 rfl rfl)
theorem dX0_noRoad_25 : decode cX0_noRoad 25 = .ok (.iconst 0, 1) := dk_3 (dk_at dksX0_noRoad_1 3 rfl rfl)
theorem dX0_noRoad_26 : decode cX0_noRoad 26 = .ok (.ireturn, 1) := dk_172 (dk_at dksX0_noRoad_1 4 rfl rfl)
abbrev cX0_mend : ByteArray := prog_1_method_20_code
def yX0_mend : MethodName := ⟨RX0, "mend", "(I)I"⟩
def dkwX0_mend_2 : List UInt8 := [180, 0, 167, 4, 96, 181, 0, 167, 44, 180, 0, 167, 172]
abbrev dktX0_mend_2 : List UInt8 := dkwX0_mend_2 ++ []
def dkwX0_mend_1 : List UInt8 := [44, 182, 0, 164, 154, 0, 6, 16, 253, 172, 44, 180, 0, 167, 16, 9, 160, 0, 6, 16, 252, 172, 44, 89]
abbrev dktX0_mend_1 : List UInt8 := dkwX0_mend_1 ++ dktX0_mend_2
def dkwX0_mend_0 : List UInt8 := [42, 27, 182, 0, 158, 153, 0, 5, 2, 172, 42, 180, 0, 28, 27, 185, 0, 112, 2, 0, 192, 0, 147, 77]
abbrev dktX0_mend_0 : List UInt8 := dkwX0_mend_0 ++ dktX0_mend_1
theorem dksX0_mend_0 : cX0_mend.data.toList.drop 0 = dktX0_mend_0 := by decide +kernel
theorem dksX0_mend_1 : cX0_mend.data.toList.drop 24 = dktX0_mend_1 := dk_seg dksX0_mend_0 24 rfl rfl
theorem dksX0_mend_2 : cX0_mend.data.toList.drop 48 = dktX0_mend_2 := dk_seg dksX0_mend_1 24 rfl rfl
theorem dX0_mend_0 : decode cX0_mend 0 = .ok (.aload_n 0, 1) := dk_42 (dk_at dksX0_mend_0 0 rfl rfl)
theorem dX0_mend_1 : decode cX0_mend 1 = .ok (.iload_n 1, 1) := dk_27 (dk_at dksX0_mend_0 1 rfl rfl)
theorem dX0_mend_2 : decode cX0_mend 2 = .ok (.invokevirtual 158, 3) := dk_182 0 158 (dk_at dksX0_mend_0 2 rfl rfl)
theorem dX0_mend_5 : decode cX0_mend 5 = .ok (.ifCond .eq 5, 3) := dk_153 0 5 (dk_at dksX0_mend_0 5 rfl rfl)
theorem dX0_mend_8 : decode cX0_mend 8 = .ok (.iconst (-1), 1) := dk_2 (dk_at dksX0_mend_0 8 rfl rfl)
theorem dX0_mend_9 : decode cX0_mend 9 = .ok (.ireturn, 1) := dk_172 (dk_at dksX0_mend_0 9 rfl rfl)
theorem dX0_mend_10 : decode cX0_mend 10 = .ok (.aload_n 0, 1) := dk_42 (dk_at dksX0_mend_0 10 rfl rfl)
theorem dX0_mend_11 : decode cX0_mend 11 = .ok (.getfield 28, 3) := dk_180 0 28 (dk_at dksX0_mend_0 11 rfl rfl)
theorem dX0_mend_14 : decode cX0_mend 14 = .ok (.iload_n 1, 1) := dk_27 (dk_at dksX0_mend_0 14 rfl rfl)
theorem dX0_mend_15 : decode cX0_mend 15 = .ok (.invokeinterface 112 2, 5) := by decide +kernel
theorem dX0_mend_20 : decode cX0_mend 20 = .ok (.checkcast 147, 3) := dk_192 0 147 (dk_at dksX0_mend_0 20 rfl rfl)
theorem dX0_mend_23 : decode cX0_mend 23 = .ok (.astore_n 2, 1) := dk_77 (dk_at dksX0_mend_0 23 rfl rfl)
theorem dX0_mend_24 : decode cX0_mend 24 = .ok (.aload_n 2, 1) := dk_44 (dk_at dksX0_mend_1 0 rfl rfl)
theorem dX0_mend_25 : decode cX0_mend 25 = .ok (.invokevirtual 164, 3) := dk_182 0 164 (dk_at dksX0_mend_1 1 rfl rfl)
theorem dX0_mend_28 : decode cX0_mend 28 = .ok (.ifCond .ne 6, 3) := dk_154 0 6 (dk_at dksX0_mend_1 4 rfl rfl)
theorem dX0_mend_31 : decode cX0_mend 31 = .ok (.bipush (-3), 2) := dk_16 253 (dk_at dksX0_mend_1 7 rfl rfl)
theorem dX0_mend_33 : decode cX0_mend 33 = .ok (.ireturn, 1) := dk_172 (dk_at dksX0_mend_1 9 rfl rfl)
theorem dX0_mend_34 : decode cX0_mend 34 = .ok (.aload_n 2, 1) := dk_44 (dk_at dksX0_mend_1 10 rfl rfl)
theorem dX0_mend_35 : decode cX0_mend 35 = .ok (.getfield 167, 3) := dk_180 0 167 (dk_at dksX0_mend_1 11 rfl rfl)
theorem dX0_mend_38 : decode cX0_mend 38 = .ok (.bipush 9, 2) := dk_16 9 (dk_at dksX0_mend_1 14 rfl rfl)
theorem dX0_mend_40 : decode cX0_mend 40 = .ok (.if_icmp .ne 6, 3) := dk_160 0 6 (dk_at dksX0_mend_1 16 rfl rfl)
theorem dX0_mend_43 : decode cX0_mend 43 = .ok (.bipush (-4), 2) := dk_16 252 (dk_at dksX0_mend_1 19 rfl rfl)
theorem dX0_mend_45 : decode cX0_mend 45 = .ok (.ireturn, 1) := dk_172 (dk_at dksX0_mend_1 21 rfl rfl)
theorem dX0_mend_46 : decode cX0_mend 46 = .ok (.aload_n 2, 1) := dk_44 (dk_at dksX0_mend_1 22 rfl rfl)
theorem dX0_mend_47 : decode cX0_mend 47 = .ok (.dup, 1) := dk_89 (dk_at dksX0_mend_1 23 rfl rfl)
theorem dX0_mend_48 : decode cX0_mend 48 = .ok (.getfield 167, 3) := dk_180 0 167 (dk_at dksX0_mend_2 0 rfl rfl)
theorem dX0_mend_51 : decode cX0_mend 51 = .ok (.iconst 1, 1) := dk_4 (dk_at dksX0_mend_2 3 rfl rfl)
theorem dX0_mend_52 : decode cX0_mend 52 = .ok (.iadd, 1) := dk_96 (dk_at dksX0_mend_2 4 rfl rfl)
theorem dX0_mend_53 : decode cX0_mend 53 = .ok (.putfield 167, 3) := dk_181 0 167 (dk_at dksX0_mend_2 5 rfl rfl)
theorem dX0_mend_56 : decode cX0_mend 56 = .ok (.aload_n 2, 1) := dk_44 (dk_at dksX0_mend_2 8 rfl rfl)
theorem dX0_mend_57 : decode cX0_mend 57 = .ok (.getfield 167, 3) := dk_180 0 167 (dk_at dksX0_mend_2 9 rfl rfl)
theorem dX0_mend_60 : decode cX0_mend 60 = .ok (.ireturn, 1) := dk_172 (dk_at dksX0_mend_2 12 rfl rfl)
abbrev cX0_height : ByteArray := prog_1_method_21_code
def yX0_height : MethodName := ⟨RX0, "height", "(II)I"⟩
def dkwX0_height_1 : List UInt8 := [185, 0, 112, 2, 0, 192, 0, 147, 28, 182, 0, 170, 167, 0, 5, 16, 254, 172]
abbrev dktX0_height_1 : List UInt8 := dkwX0_height_1 ++ []
def dkwX0_height_0 : List UInt8 := [42, 27, 182, 0, 158, 153, 0, 5, 2, 172, 28, 184, 0, 125, 153, 0, 23, 42, 180, 0, 28, 27]
abbrev dktX0_height_0 : List UInt8 := dkwX0_height_0 ++ dktX0_height_1
theorem dksX0_height_0 : cX0_height.data.toList.drop 0 = dktX0_height_0 := by decide +kernel
theorem dksX0_height_1 : cX0_height.data.toList.drop 22 = dktX0_height_1 := dk_seg dksX0_height_0 22 rfl rfl
theorem dX0_height_0 : decode cX0_height 0 = .ok (.aload_n 0, 1) := dk_42 (dk_at dksX0_height_0 0 rfl rfl)
theorem dX0_height_1 : decode cX0_height 1 = .ok (.iload_n 1, 1) := dk_27 (dk_at dksX0_height_0 1 rfl rfl)
theorem dX0_height_2 : decode cX0_height 2 = .ok (.invokevirtual 158, 3) := dk_182 0 158 (dk_at dksX0_height_0 2 rfl rfl)
theorem dX0_height_5 : decode cX0_height 5 = .ok (.ifCond .eq 5, 3) := dk_153 0 5 (dk_at dksX0_height_0 5 rfl rfl)
theorem dX0_height_8 : decode cX0_height 8 = .ok (.iconst (-1), 1) := dk_2 (dk_at dksX0_height_0 8 rfl rfl)
theorem dX0_height_9 : decode cX0_height 9 = .ok (.ireturn, 1) := dk_172 (dk_at dksX0_height_0 9 rfl rfl)
theorem dX0_height_10 : decode cX0_height 10 = .ok (.iload_n 2, 1) := dk_28 (dk_at dksX0_height_0 10 rfl rfl)
theorem dX0_height_11 : decode cX0_height 11 = .ok (.invokestatic 125, 3) := dk_184 0 125 (dk_at dksX0_height_0 11 rfl rfl)
theorem dX0_height_14 : decode cX0_height 14 = .ok (.ifCond .eq 23, 3) := dk_153 0 23 (dk_at dksX0_height_0 14 rfl rfl)
theorem dX0_height_17 : decode cX0_height 17 = .ok (.aload_n 0, 1) := dk_42 (dk_at dksX0_height_0 17 rfl rfl)
theorem dX0_height_18 : decode cX0_height 18 = .ok (.getfield 28, 3) := dk_180 0 28 (dk_at dksX0_height_0 18 rfl rfl)
theorem dX0_height_21 : decode cX0_height 21 = .ok (.iload_n 1, 1) := dk_27 (dk_at dksX0_height_0 21 rfl rfl)
theorem dX0_height_22 : decode cX0_height 22 = .ok (.invokeinterface 112 2, 5) := by decide +kernel
theorem dX0_height_27 : decode cX0_height 27 = .ok (.checkcast 147, 3) := dk_192 0 147 (dk_at dksX0_height_1 5 rfl rfl)
theorem dX0_height_30 : decode cX0_height 30 = .ok (.iload_n 2, 1) := dk_28 (dk_at dksX0_height_1 8 rfl rfl)
theorem dX0_height_31 : decode cX0_height 31 = .ok (.invokevirtual 170, 3) := dk_182 0 170 (dk_at dksX0_height_1 9 rfl rfl)
theorem dX0_height_34 : decode cX0_height 34 = .ok (.goto 5, 3) := dk_167 0 5 (dk_at dksX0_height_1 12 rfl rfl)
theorem dX0_height_37 : decode cX0_height 37 = .ok (.bipush (-2), 2) := dk_16 254 (dk_at dksX0_height_1 15 rfl rfl)
theorem dX0_height_39 : decode cX0_height 39 = .ok (.ireturn, 1) := dk_172 (dk_at dksX0_height_1 17 rfl rfl)
abbrev cX0_dry : ByteArray := prog_1_method_23_code
def yX0_dry : MethodName := ⟨RX0, "dry", "(II)I"⟩
def dkwX0_dry_2 : List UInt8 := [16, 254, 172]
abbrev dktX0_dry_2 : List UInt8 := dkwX0_dry_2 ++ []
def dkwX0_dry_1 : List UInt8 := [185, 0, 112, 2, 0, 192, 0, 147, 28, 182, 0, 173, 153, 0, 7, 4, 167, 0, 9, 3, 167, 0, 5]
abbrev dktX0_dry_1 : List UInt8 := dkwX0_dry_1 ++ dktX0_dry_2
def dkwX0_dry_0 : List UInt8 := [42, 27, 182, 0, 158, 153, 0, 5, 2, 172, 28, 184, 0, 125, 153, 0, 32, 42, 42, 180, 0, 28, 27]
abbrev dktX0_dry_0 : List UInt8 := dkwX0_dry_0 ++ dktX0_dry_1
theorem dksX0_dry_0 : cX0_dry.data.toList.drop 0 = dktX0_dry_0 := by decide +kernel
theorem dksX0_dry_1 : cX0_dry.data.toList.drop 23 = dktX0_dry_1 := dk_seg dksX0_dry_0 23 rfl rfl
theorem dksX0_dry_2 : cX0_dry.data.toList.drop 46 = dktX0_dry_2 := dk_seg dksX0_dry_1 23 rfl rfl
theorem dX0_dry_0 : decode cX0_dry 0 = .ok (.aload_n 0, 1) := dk_42 (dk_at dksX0_dry_0 0 rfl rfl)
theorem dX0_dry_1 : decode cX0_dry 1 = .ok (.iload_n 1, 1) := dk_27 (dk_at dksX0_dry_0 1 rfl rfl)
theorem dX0_dry_2 : decode cX0_dry 2 = .ok (.invokevirtual 158, 3) := dk_182 0 158 (dk_at dksX0_dry_0 2 rfl rfl)
theorem dX0_dry_5 : decode cX0_dry 5 = .ok (.ifCond .eq 5, 3) := dk_153 0 5 (dk_at dksX0_dry_0 5 rfl rfl)
theorem dX0_dry_8 : decode cX0_dry 8 = .ok (.iconst (-1), 1) := dk_2 (dk_at dksX0_dry_0 8 rfl rfl)
theorem dX0_dry_9 : decode cX0_dry 9 = .ok (.ireturn, 1) := dk_172 (dk_at dksX0_dry_0 9 rfl rfl)
theorem dX0_dry_10 : decode cX0_dry 10 = .ok (.iload_n 2, 1) := dk_28 (dk_at dksX0_dry_0 10 rfl rfl)
theorem dX0_dry_11 : decode cX0_dry 11 = .ok (.invokestatic 125, 3) := dk_184 0 125 (dk_at dksX0_dry_0 11 rfl rfl)
theorem dX0_dry_14 : decode cX0_dry 14 = .ok (.ifCond .eq 32, 3) := dk_153 0 32 (dk_at dksX0_dry_0 14 rfl rfl)
theorem dX0_dry_17 : decode cX0_dry 17 = .ok (.aload_n 0, 1) := dk_42 (dk_at dksX0_dry_0 17 rfl rfl)
theorem dX0_dry_18 : decode cX0_dry 18 = .ok (.aload_n 0, 1) := dk_42 (dk_at dksX0_dry_0 18 rfl rfl)
theorem dX0_dry_19 : decode cX0_dry 19 = .ok (.getfield 28, 3) := dk_180 0 28 (dk_at dksX0_dry_0 19 rfl rfl)
theorem dX0_dry_22 : decode cX0_dry 22 = .ok (.iload_n 1, 1) := dk_27 (dk_at dksX0_dry_0 22 rfl rfl)
theorem dX0_dry_23 : decode cX0_dry 23 = .ok (.invokeinterface 112 2, 5) := by decide +kernel
theorem dX0_dry_28 : decode cX0_dry 28 = .ok (.checkcast 147, 3) := dk_192 0 147 (dk_at dksX0_dry_1 5 rfl rfl)
theorem dX0_dry_31 : decode cX0_dry 31 = .ok (.iload_n 2, 1) := dk_28 (dk_at dksX0_dry_1 8 rfl rfl)
theorem dX0_dry_32 : decode cX0_dry 32 = .ok (.invokevirtual 173, 3) := dk_182 0 173 (dk_at dksX0_dry_1 9 rfl rfl)
theorem dX0_dry_35 : decode cX0_dry 35 = .ok (.ifCond .eq 7, 3) := dk_153 0 7 (dk_at dksX0_dry_1 12 rfl rfl)
theorem dX0_dry_38 : decode cX0_dry 38 = .ok (.iconst 1, 1) := dk_4 (dk_at dksX0_dry_1 15 rfl rfl)
theorem dX0_dry_39 : decode cX0_dry 39 = .ok (.goto 9, 3) := dk_167 0 9 (dk_at dksX0_dry_1 16 rfl rfl)
theorem dX0_dry_42 : decode cX0_dry 42 = .ok (.iconst 0, 1) := dk_3 (dk_at dksX0_dry_1 19 rfl rfl)
theorem dX0_dry_43 : decode cX0_dry 43 = .ok (.goto 5, 3) := dk_167 0 5 (dk_at dksX0_dry_1 20 rfl rfl)
theorem dX0_dry_46 : decode cX0_dry 46 = .ok (.bipush (-2), 2) := dk_16 254 (dk_at dksX0_dry_2 0 rfl rfl)
theorem dX0_dry_48 : decode cX0_dry 48 = .ok (.ireturn, 1) := dk_172 (dk_at dksX0_dry_2 2 rfl rfl)
abbrev cX0_isDry : ByteArray := prog_1_method_22_code
def yX0_isDry : MethodName := ⟨RX0, "isDry", "(LThirdEbb$Soft;I)Z"⟩
def dkwX0_isDry_0 : List UInt8 := [42, 28, 182, 0, 135, 43, 28, 182, 0, 170, 163, 0, 7, 4, 167, 0, 4, 3, 172]
abbrev dktX0_isDry_0 : List UInt8 := dkwX0_isDry_0 ++ []
theorem dksX0_isDry_0 : cX0_isDry.data.toList.drop 0 = dktX0_isDry_0 := by decide +kernel
theorem dX0_isDry_0 : decode cX0_isDry 0 = .ok (.aload_n 0, 1) := dk_42 (dk_at dksX0_isDry_0 0 rfl rfl)
theorem dX0_isDry_1 : decode cX0_isDry 1 = .ok (.iload_n 2, 1) := dk_28 (dk_at dksX0_isDry_0 1 rfl rfl)
theorem dX0_isDry_2 : decode cX0_isDry 2 = .ok (.invokevirtual 135, 3) := dk_182 0 135 (dk_at dksX0_isDry_0 2 rfl rfl)
theorem dX0_isDry_5 : decode cX0_isDry 5 = .ok (.aload_n 1, 1) := dk_43 (dk_at dksX0_isDry_0 5 rfl rfl)
theorem dX0_isDry_6 : decode cX0_isDry 6 = .ok (.iload_n 2, 1) := dk_28 (dk_at dksX0_isDry_0 6 rfl rfl)
theorem dX0_isDry_7 : decode cX0_isDry 7 = .ok (.invokevirtual 170, 3) := dk_182 0 170 (dk_at dksX0_isDry_0 7 rfl rfl)
theorem dX0_isDry_10 : decode cX0_isDry 10 = .ok (.if_icmp .gt 7, 3) := dk_163 0 7 (dk_at dksX0_isDry_0 10 rfl rfl)
theorem dX0_isDry_13 : decode cX0_isDry 13 = .ok (.iconst 1, 1) := dk_4 (dk_at dksX0_isDry_0 13 rfl rfl)
theorem dX0_isDry_14 : decode cX0_isDry 14 = .ok (.goto 4, 3) := dk_167 0 4 (dk_at dksX0_isDry_0 14 rfl rfl)
theorem dX0_isDry_17 : decode cX0_isDry 17 = .ok (.iconst 0, 1) := dk_3 (dk_at dksX0_isDry_0 17 rfl rfl)
theorem dX0_isDry_18 : decode cX0_isDry 18 = .ok (.ireturn, 1) := dk_172 (dk_at dksX0_isDry_0 18 rfl rfl)
abbrev cX0_dryHours : ByteArray := prog_1_method_24_code
def yX0_dryHours : MethodName := ⟨RX0, "dryHours", "(IIII)J"⟩
def dkwX0_dryHours_5 : List UInt8 := [108, 133, 173]
abbrev dktX0_dryHours_5 : List UInt8 := dkwX0_dryHours_5 ++ []
def dkwX0_dryHours_4 : List UInt8 := [167, 255, 215, 21, 4, 154, 0, 8, 21, 5, 167, 0, 6, 29, 28, 100, 29, 28, 100, 21, 5, 184, 0, 5]
abbrev dktX0_dryHours_4 : List UInt8 := dkwX0_dryHours_4 ++ dktX0_dryHours_5
def dkwX0_dryHours_3 : List UInt8 := [192, 0, 147, 21, 6, 182, 0, 173, 153, 0, 7, 4, 167, 0, 4, 3, 96, 54, 5, 132, 6, 1]
abbrev dktX0_dryHours_3 : List UInt8 := dkwX0_dryHours_3 ++ dktX0_dryHours_4
def dkwX0_dryHours_2 : List UInt8 := [28, 54, 6, 21, 6, 29, 162, 0, 41, 21, 5, 42, 42, 180, 0, 28, 27, 185, 0, 112, 2, 0]
abbrev dktX0_dryHours_2 : List UInt8 := dkwX0_dryHours_2 ++ dktX0_dryHours_3
def dkwX0_dryHours_1 : List UInt8 := [184, 0, 11, 153, 0, 14, 21, 4, 133, 9, 10, 184, 0, 11, 154, 0, 7, 20, 0, 179, 173, 3, 54, 5]
abbrev dktX0_dryHours_1 : List UInt8 := dkwX0_dryHours_1 ++ dktX0_dryHours_2
def dkwX0_dryHours_0 : List UInt8 := [42, 27, 182, 0, 158, 154, 0, 36, 28, 184, 0, 125, 153, 0, 29, 29, 133, 28, 133, 10, 97, 20, 0, 177]
abbrev dktX0_dryHours_0 : List UInt8 := dkwX0_dryHours_0 ++ dktX0_dryHours_1
theorem dksX0_dryHours_0 : cX0_dryHours.data.toList.drop 0 = dktX0_dryHours_0 := by decide +kernel
theorem dksX0_dryHours_1 : cX0_dryHours.data.toList.drop 24 = dktX0_dryHours_1 := dk_seg dksX0_dryHours_0 24 rfl rfl
theorem dksX0_dryHours_2 : cX0_dryHours.data.toList.drop 48 = dktX0_dryHours_2 := dk_seg dksX0_dryHours_1 24 rfl rfl
theorem dksX0_dryHours_3 : cX0_dryHours.data.toList.drop 70 = dktX0_dryHours_3 := dk_seg dksX0_dryHours_2 22 rfl rfl
theorem dksX0_dryHours_4 : cX0_dryHours.data.toList.drop 92 = dktX0_dryHours_4 := dk_seg dksX0_dryHours_3 22 rfl rfl
theorem dksX0_dryHours_5 : cX0_dryHours.data.toList.drop 116 = dktX0_dryHours_5 := dk_seg dksX0_dryHours_4 24 rfl rfl
theorem dX0_dryHours_0 : decode cX0_dryHours 0 = .ok (.aload_n 0, 1) := dk_42 (dk_at dksX0_dryHours_0 0 rfl rfl)
theorem dX0_dryHours_1 : decode cX0_dryHours 1 = .ok (.iload_n 1, 1) := dk_27 (dk_at dksX0_dryHours_0 1 rfl rfl)
theorem dX0_dryHours_2 : decode cX0_dryHours 2 = .ok (.invokevirtual 158, 3) := dk_182 0 158 (dk_at dksX0_dryHours_0 2 rfl rfl)
theorem dX0_dryHours_5 : decode cX0_dryHours 5 = .ok (.ifCond .ne 36, 3) := dk_154 0 36 (dk_at dksX0_dryHours_0 5 rfl rfl)
theorem dX0_dryHours_8 : decode cX0_dryHours 8 = .ok (.iload_n 2, 1) := dk_28 (dk_at dksX0_dryHours_0 8 rfl rfl)
theorem dX0_dryHours_9 : decode cX0_dryHours 9 = .ok (.invokestatic 125, 3) := dk_184 0 125 (dk_at dksX0_dryHours_0 9 rfl rfl)
theorem dX0_dryHours_12 : decode cX0_dryHours 12 = .ok (.ifCond .eq 29, 3) := dk_153 0 29 (dk_at dksX0_dryHours_0 12 rfl rfl)
theorem dX0_dryHours_15 : decode cX0_dryHours 15 = .ok (.iload_n 3, 1) := dk_29 (dk_at dksX0_dryHours_0 15 rfl rfl)
theorem dX0_dryHours_16 : decode cX0_dryHours 16 = .ok (.i2l, 1) := dk_133 (dk_at dksX0_dryHours_0 16 rfl rfl)
theorem dX0_dryHours_17 : decode cX0_dryHours 17 = .ok (.iload_n 2, 1) := dk_28 (dk_at dksX0_dryHours_0 17 rfl rfl)
theorem dX0_dryHours_18 : decode cX0_dryHours 18 = .ok (.i2l, 1) := dk_133 (dk_at dksX0_dryHours_0 18 rfl rfl)
theorem dX0_dryHours_19 : decode cX0_dryHours 19 = .ok (.lconst 1, 1) := dk_10 (dk_at dksX0_dryHours_0 19 rfl rfl)
theorem dX0_dryHours_20 : decode cX0_dryHours 20 = .ok (.ladd, 1) := dk_97 (dk_at dksX0_dryHours_0 20 rfl rfl)
theorem dX0_dryHours_21 : decode cX0_dryHours 21 = .ok (.ldc2_w 177, 3) := dk_20 0 177 (dk_at dksX0_dryHours_0 21 rfl rfl)
theorem dX0_dryHours_24 : decode cX0_dryHours 24 = .ok (.invokestatic 11, 3) := dk_184 0 11 (dk_at dksX0_dryHours_1 0 rfl rfl)
theorem dX0_dryHours_27 : decode cX0_dryHours 27 = .ok (.ifCond .eq 14, 3) := dk_153 0 14 (dk_at dksX0_dryHours_1 3 rfl rfl)
theorem dX0_dryHours_30 : decode cX0_dryHours 30 = .ok (.iload 4, 2) := dk_21 4 (dk_at dksX0_dryHours_1 6 rfl rfl)
theorem dX0_dryHours_32 : decode cX0_dryHours 32 = .ok (.i2l, 1) := dk_133 (dk_at dksX0_dryHours_1 8 rfl rfl)
theorem dX0_dryHours_33 : decode cX0_dryHours 33 = .ok (.lconst 0, 1) := dk_9 (dk_at dksX0_dryHours_1 9 rfl rfl)
theorem dX0_dryHours_34 : decode cX0_dryHours 34 = .ok (.lconst 1, 1) := dk_10 (dk_at dksX0_dryHours_1 10 rfl rfl)
theorem dX0_dryHours_35 : decode cX0_dryHours 35 = .ok (.invokestatic 11, 3) := dk_184 0 11 (dk_at dksX0_dryHours_1 11 rfl rfl)
theorem dX0_dryHours_38 : decode cX0_dryHours 38 = .ok (.ifCond .ne 7, 3) := dk_154 0 7 (dk_at dksX0_dryHours_1 14 rfl rfl)
theorem dX0_dryHours_41 : decode cX0_dryHours 41 = .ok (.ldc2_w 179, 3) := dk_20 0 179 (dk_at dksX0_dryHours_1 17 rfl rfl)
theorem dX0_dryHours_44 : decode cX0_dryHours 44 = .ok (.lreturn, 1) := dk_173 (dk_at dksX0_dryHours_1 20 rfl rfl)
theorem dX0_dryHours_45 : decode cX0_dryHours 45 = .ok (.iconst 0, 1) := dk_3 (dk_at dksX0_dryHours_1 21 rfl rfl)
theorem dX0_dryHours_46 : decode cX0_dryHours 46 = .ok (.istore 5, 2) := dk_54 5 (dk_at dksX0_dryHours_1 22 rfl rfl)
theorem dX0_dryHours_48 : decode cX0_dryHours 48 = .ok (.iload_n 2, 1) := dk_28 (dk_at dksX0_dryHours_2 0 rfl rfl)
theorem dX0_dryHours_49 : decode cX0_dryHours 49 = .ok (.istore 6, 2) := dk_54 6 (dk_at dksX0_dryHours_2 1 rfl rfl)
theorem dX0_dryHours_51 : decode cX0_dryHours 51 = .ok (.iload 6, 2) := dk_21 6 (dk_at dksX0_dryHours_2 3 rfl rfl)
theorem dX0_dryHours_53 : decode cX0_dryHours 53 = .ok (.iload_n 3, 1) := dk_29 (dk_at dksX0_dryHours_2 5 rfl rfl)
theorem dX0_dryHours_54 : decode cX0_dryHours 54 = .ok (.if_icmp .ge 41, 3) := dk_162 0 41 (dk_at dksX0_dryHours_2 6 rfl rfl)
theorem dX0_dryHours_57 : decode cX0_dryHours 57 = .ok (.iload 5, 2) := dk_21 5 (dk_at dksX0_dryHours_2 9 rfl rfl)
theorem dX0_dryHours_59 : decode cX0_dryHours 59 = .ok (.aload_n 0, 1) := dk_42 (dk_at dksX0_dryHours_2 11 rfl rfl)
theorem dX0_dryHours_60 : decode cX0_dryHours 60 = .ok (.aload_n 0, 1) := dk_42 (dk_at dksX0_dryHours_2 12 rfl rfl)
theorem dX0_dryHours_61 : decode cX0_dryHours 61 = .ok (.getfield 28, 3) := dk_180 0 28 (dk_at dksX0_dryHours_2 13 rfl rfl)
theorem dX0_dryHours_64 : decode cX0_dryHours 64 = .ok (.iload_n 1, 1) := dk_27 (dk_at dksX0_dryHours_2 16 rfl rfl)
theorem dX0_dryHours_65 : decode cX0_dryHours 65 = .ok (.invokeinterface 112 2, 5) := by decide +kernel
theorem dX0_dryHours_70 : decode cX0_dryHours 70 = .ok (.checkcast 147, 3) := dk_192 0 147 (dk_at dksX0_dryHours_3 0 rfl rfl)
theorem dX0_dryHours_73 : decode cX0_dryHours 73 = .ok (.iload 6, 2) := dk_21 6 (dk_at dksX0_dryHours_3 3 rfl rfl)
theorem dX0_dryHours_75 : decode cX0_dryHours 75 = .ok (.invokevirtual 173, 3) := dk_182 0 173 (dk_at dksX0_dryHours_3 5 rfl rfl)
theorem dX0_dryHours_78 : decode cX0_dryHours 78 = .ok (.ifCond .eq 7, 3) := dk_153 0 7 (dk_at dksX0_dryHours_3 8 rfl rfl)
theorem dX0_dryHours_81 : decode cX0_dryHours 81 = .ok (.iconst 1, 1) := dk_4 (dk_at dksX0_dryHours_3 11 rfl rfl)
theorem dX0_dryHours_82 : decode cX0_dryHours 82 = .ok (.goto 4, 3) := dk_167 0 4 (dk_at dksX0_dryHours_3 12 rfl rfl)
theorem dX0_dryHours_85 : decode cX0_dryHours 85 = .ok (.iconst 0, 1) := dk_3 (dk_at dksX0_dryHours_3 15 rfl rfl)
theorem dX0_dryHours_86 : decode cX0_dryHours 86 = .ok (.iadd, 1) := dk_96 (dk_at dksX0_dryHours_3 16 rfl rfl)
theorem dX0_dryHours_87 : decode cX0_dryHours 87 = .ok (.istore 5, 2) := dk_54 5 (dk_at dksX0_dryHours_3 17 rfl rfl)
theorem dX0_dryHours_89 : decode cX0_dryHours 89 = .ok (.iinc 6 1, 3) := dk_132 6 1 (dk_at dksX0_dryHours_3 19 rfl rfl)
theorem dX0_dryHours_92 : decode cX0_dryHours 92 = .ok (.goto (-41), 3) := dk_167 255 215 (dk_at dksX0_dryHours_4 0 rfl rfl)
theorem dX0_dryHours_95 : decode cX0_dryHours 95 = .ok (.iload 4, 2) := dk_21 4 (dk_at dksX0_dryHours_4 3 rfl rfl)
theorem dX0_dryHours_97 : decode cX0_dryHours 97 = .ok (.ifCond .ne 8, 3) := dk_154 0 8 (dk_at dksX0_dryHours_4 5 rfl rfl)
theorem dX0_dryHours_100 : decode cX0_dryHours 100 = .ok (.iload 5, 2) := dk_21 5 (dk_at dksX0_dryHours_4 8 rfl rfl)
theorem dX0_dryHours_102 : decode cX0_dryHours 102 = .ok (.goto 6, 3) := dk_167 0 6 (dk_at dksX0_dryHours_4 10 rfl rfl)
theorem dX0_dryHours_105 : decode cX0_dryHours 105 = .ok (.iload_n 3, 1) := dk_29 (dk_at dksX0_dryHours_4 13 rfl rfl)
theorem dX0_dryHours_106 : decode cX0_dryHours 106 = .ok (.iload_n 2, 1) := dk_28 (dk_at dksX0_dryHours_4 14 rfl rfl)
theorem dX0_dryHours_107 : decode cX0_dryHours 107 = .ok (.isub, 1) := dk_100 (dk_at dksX0_dryHours_4 15 rfl rfl)
theorem dX0_dryHours_108 : decode cX0_dryHours 108 = .ok (.iload_n 3, 1) := dk_29 (dk_at dksX0_dryHours_4 16 rfl rfl)
theorem dX0_dryHours_109 : decode cX0_dryHours 109 = .ok (.iload_n 2, 1) := dk_28 (dk_at dksX0_dryHours_4 17 rfl rfl)
theorem dX0_dryHours_110 : decode cX0_dryHours 110 = .ok (.isub, 1) := dk_100 (dk_at dksX0_dryHours_4 18 rfl rfl)
theorem dX0_dryHours_111 : decode cX0_dryHours 111 = .ok (.iload 5, 2) := dk_21 5 (dk_at dksX0_dryHours_4 19 rfl rfl)
theorem dX0_dryHours_113 : decode cX0_dryHours 113 = .ok (.invokestatic 5, 3) := dk_184 0 5 (dk_at dksX0_dryHours_4 21 rfl rfl)
theorem dX0_dryHours_116 : decode cX0_dryHours 116 = .ok (.idiv, 1) := dk_108 (dk_at dksX0_dryHours_5 0 rfl rfl)
theorem dX0_dryHours_117 : decode cX0_dryHours 117 = .ok (.i2l, 1) := dk_133 (dk_at dksX0_dryHours_5 1 rfl rfl)
theorem dX0_dryHours_118 : decode cX0_dryHours 118 = .ok (.lreturn, 1) := dk_173 (dk_at dksX0_dryHours_5 2 rfl rfl)
abbrev cX0_next : ByteArray := prog_1_method_28_code
def yX0_next : MethodName := ⟨RX0, "next", "(IIZ)I"⟩
def dkwX0_next_2 : List UInt8 := [28, 46, 54, 4, 21, 4, 17, 7, 209, 160, 0, 8, 16, 247, 167, 0, 5, 21, 4, 172]
abbrev dktX0_next_2 : List UInt8 := dkwX0_next_2 ++ []
def dkwX0_next_1 : List UInt8 := [42, 42, 180, 0, 28, 27, 185, 0, 112, 2, 0, 192, 0, 147, 29, 182, 0, 191, 42, 180, 0, 37, 27, 50]
abbrev dktX0_next_1 : List UInt8 := dkwX0_next_1 ++ dktX0_next_2
def dkwX0_next_0 : List UInt8 := [42, 27, 182, 0, 158, 153, 0, 5, 2, 172, 28, 184, 0, 125, 154, 0, 6, 16, 254, 172, 42, 182, 0, 188]
abbrev dktX0_next_0 : List UInt8 := dkwX0_next_0 ++ dktX0_next_1
theorem dksX0_next_0 : cX0_next.data.toList.drop 0 = dktX0_next_0 := by decide +kernel
theorem dksX0_next_1 : cX0_next.data.toList.drop 24 = dktX0_next_1 := dk_seg dksX0_next_0 24 rfl rfl
theorem dksX0_next_2 : cX0_next.data.toList.drop 48 = dktX0_next_2 := dk_seg dksX0_next_1 24 rfl rfl
theorem dX0_next_0 : decode cX0_next 0 = .ok (.aload_n 0, 1) := dk_42 (dk_at dksX0_next_0 0 rfl rfl)
theorem dX0_next_1 : decode cX0_next 1 = .ok (.iload_n 1, 1) := dk_27 (dk_at dksX0_next_0 1 rfl rfl)
theorem dX0_next_2 : decode cX0_next 2 = .ok (.invokevirtual 158, 3) := dk_182 0 158 (dk_at dksX0_next_0 2 rfl rfl)
theorem dX0_next_5 : decode cX0_next 5 = .ok (.ifCond .eq 5, 3) := dk_153 0 5 (dk_at dksX0_next_0 5 rfl rfl)
theorem dX0_next_8 : decode cX0_next 8 = .ok (.iconst (-1), 1) := dk_2 (dk_at dksX0_next_0 8 rfl rfl)
theorem dX0_next_9 : decode cX0_next 9 = .ok (.ireturn, 1) := dk_172 (dk_at dksX0_next_0 9 rfl rfl)
theorem dX0_next_10 : decode cX0_next 10 = .ok (.iload_n 2, 1) := dk_28 (dk_at dksX0_next_0 10 rfl rfl)
theorem dX0_next_11 : decode cX0_next 11 = .ok (.invokestatic 125, 3) := dk_184 0 125 (dk_at dksX0_next_0 11 rfl rfl)
theorem dX0_next_14 : decode cX0_next 14 = .ok (.ifCond .ne 6, 3) := dk_154 0 6 (dk_at dksX0_next_0 14 rfl rfl)
theorem dX0_next_17 : decode cX0_next 17 = .ok (.bipush (-2), 2) := dk_16 254 (dk_at dksX0_next_0 17 rfl rfl)
theorem dX0_next_19 : decode cX0_next 19 = .ok (.ireturn, 1) := dk_172 (dk_at dksX0_next_0 19 rfl rfl)
theorem dX0_next_20 : decode cX0_next 20 = .ok (.aload_n 0, 1) := dk_42 (dk_at dksX0_next_0 20 rfl rfl)
theorem dX0_next_21 : decode cX0_next 21 = .ok (.invokevirtual 188, 3) := dk_182 0 188 (dk_at dksX0_next_0 21 rfl rfl)
theorem dX0_next_24 : decode cX0_next 24 = .ok (.aload_n 0, 1) := dk_42 (dk_at dksX0_next_1 0 rfl rfl)
theorem dX0_next_25 : decode cX0_next 25 = .ok (.aload_n 0, 1) := dk_42 (dk_at dksX0_next_1 1 rfl rfl)
theorem dX0_next_26 : decode cX0_next 26 = .ok (.getfield 28, 3) := dk_180 0 28 (dk_at dksX0_next_1 2 rfl rfl)
theorem dX0_next_29 : decode cX0_next 29 = .ok (.iload_n 1, 1) := dk_27 (dk_at dksX0_next_1 5 rfl rfl)
theorem dX0_next_30 : decode cX0_next 30 = .ok (.invokeinterface 112 2, 5) := by decide +kernel
theorem dX0_next_35 : decode cX0_next 35 = .ok (.checkcast 147, 3) := dk_192 0 147 (dk_at dksX0_next_1 11 rfl rfl)
theorem dX0_next_38 : decode cX0_next 38 = .ok (.iload_n 3, 1) := dk_29 (dk_at dksX0_next_1 14 rfl rfl)
theorem dX0_next_39 : decode cX0_next 39 = .ok (.invokevirtual 191, 3) := dk_182 0 191 (dk_at dksX0_next_1 15 rfl rfl)
theorem dX0_next_42 : decode cX0_next 42 = .ok (.aload_n 0, 1) := dk_42 (dk_at dksX0_next_1 18 rfl rfl)
theorem dX0_next_43 : decode cX0_next 43 = .ok (.getfield 37, 3) := dk_180 0 37 (dk_at dksX0_next_1 19 rfl rfl)
theorem dX0_next_46 : decode cX0_next 46 = .ok (.iload_n 1, 1) := dk_27 (dk_at dksX0_next_1 22 rfl rfl)
theorem dX0_next_47 : decode cX0_next 47 = .ok (.aaload, 1) := dk_50 (dk_at dksX0_next_1 23 rfl rfl)
theorem dX0_next_48 : decode cX0_next 48 = .ok (.iload_n 2, 1) := dk_28 (dk_at dksX0_next_2 0 rfl rfl)
theorem dX0_next_49 : decode cX0_next 49 = .ok (.iaload, 1) := dk_46 (dk_at dksX0_next_2 1 rfl rfl)
theorem dX0_next_50 : decode cX0_next 50 = .ok (.istore 4, 2) := dk_54 4 (dk_at dksX0_next_2 2 rfl rfl)
theorem dX0_next_52 : decode cX0_next 52 = .ok (.iload 4, 2) := dk_21 4 (dk_at dksX0_next_2 4 rfl rfl)
theorem dX0_next_54 : decode cX0_next 54 = .ok (.sipush 2001, 3) := dk_17 7 209 (dk_at dksX0_next_2 6 rfl rfl)
theorem dX0_next_57 : decode cX0_next 57 = .ok (.if_icmp .ne 8, 3) := dk_160 0 8 (dk_at dksX0_next_2 9 rfl rfl)
theorem dX0_next_60 : decode cX0_next 60 = .ok (.bipush (-9), 2) := dk_16 247 (dk_at dksX0_next_2 12 rfl rfl)
theorem dX0_next_62 : decode cX0_next 62 = .ok (.goto 5, 3) := dk_167 0 5 (dk_at dksX0_next_2 14 rfl rfl)
theorem dX0_next_65 : decode cX0_next 65 = .ok (.iload 4, 2) := dk_21 4 (dk_at dksX0_next_2 17 rfl rfl)
theorem dX0_next_67 : decode cX0_next 67 = .ok (.ireturn, 1) := dk_172 (dk_at dksX0_next_2 19 rfl rfl)
abbrev cX0_layLevels : ByteArray := prog_1_method_26_code
def yX0_layLevels : MethodName := ⟨RX0, "layLevels", "()V"⟩
def dkwX0_layLevels_1 : List UInt8 := [167, 255, 235, 177]
abbrev dktX0_layLevels_1 : List UInt8 := dkwX0_layLevels_1 ++ []
def dkwX0_layLevels_0 : List UInt8 := [3, 60, 27, 17, 7, 208, 162, 0, 20, 42, 180, 0, 31, 27, 42, 27, 182, 0, 135, 79, 132, 1, 1]
abbrev dktX0_layLevels_0 : List UInt8 := dkwX0_layLevels_0 ++ dktX0_layLevels_1
theorem dksX0_layLevels_0 : cX0_layLevels.data.toList.drop 0 = dktX0_layLevels_0 := by decide +kernel
theorem dksX0_layLevels_1 : cX0_layLevels.data.toList.drop 23 = dktX0_layLevels_1 := dk_seg dksX0_layLevels_0 23 rfl rfl
theorem dX0_layLevels_0 : decode cX0_layLevels 0 = .ok (.iconst 0, 1) := dk_3 (dk_at dksX0_layLevels_0 0 rfl rfl)
theorem dX0_layLevels_1 : decode cX0_layLevels 1 = .ok (.istore_n 1, 1) := dk_60 (dk_at dksX0_layLevels_0 1 rfl rfl)
theorem dX0_layLevels_2 : decode cX0_layLevels 2 = .ok (.iload_n 1, 1) := dk_27 (dk_at dksX0_layLevels_0 2 rfl rfl)
theorem dX0_layLevels_3 : decode cX0_layLevels 3 = .ok (.sipush 2000, 3) := dk_17 7 208 (dk_at dksX0_layLevels_0 3 rfl rfl)
theorem dX0_layLevels_6 : decode cX0_layLevels 6 = .ok (.if_icmp .ge 20, 3) := dk_162 0 20 (dk_at dksX0_layLevels_0 6 rfl rfl)
theorem dX0_layLevels_9 : decode cX0_layLevels 9 = .ok (.aload_n 0, 1) := dk_42 (dk_at dksX0_layLevels_0 9 rfl rfl)
theorem dX0_layLevels_10 : decode cX0_layLevels 10 = .ok (.getfield 31, 3) := dk_180 0 31 (dk_at dksX0_layLevels_0 10 rfl rfl)
theorem dX0_layLevels_13 : decode cX0_layLevels 13 = .ok (.iload_n 1, 1) := dk_27 (dk_at dksX0_layLevels_0 13 rfl rfl)
theorem dX0_layLevels_14 : decode cX0_layLevels 14 = .ok (.aload_n 0, 1) := dk_42 (dk_at dksX0_layLevels_0 14 rfl rfl)
theorem dX0_layLevels_15 : decode cX0_layLevels 15 = .ok (.iload_n 1, 1) := dk_27 (dk_at dksX0_layLevels_0 15 rfl rfl)
theorem dX0_layLevels_16 : decode cX0_layLevels 16 = .ok (.invokevirtual 135, 3) := dk_182 0 135 (dk_at dksX0_layLevels_0 16 rfl rfl)
theorem dX0_layLevels_19 : decode cX0_layLevels 19 = .ok (.iastore, 1) := dk_79 (dk_at dksX0_layLevels_0 19 rfl rfl)
theorem dX0_layLevels_20 : decode cX0_layLevels 20 = .ok (.iinc 1 1, 3) := dk_132 1 1 (dk_at dksX0_layLevels_0 20 rfl rfl)
theorem dX0_layLevels_23 : decode cX0_layLevels 23 = .ok (.goto (-21), 3) := dk_167 255 235 (dk_at dksX0_layLevels_1 0 rfl rfl)
theorem dX0_layLevels_26 : decode cX0_layLevels 26 = .ok (.return_, 1) := dk_177 (dk_at dksX0_layLevels_1 3 rfl rfl)
abbrev cX0_layStarts : ByteArray := prog_1_method_25_code
def yX0_layStarts : MethodName := ⟨RX0, "layStarts", "(LThirdEbb$Soft;Z)V"⟩
def dkwX0_layStarts_3 : List UInt8 := [21, 5, 167, 0, 9, 45, 21, 5, 4, 96, 46, 79, 132, 5, 255, 167, 255, 197, 177]
abbrev dktX0_layStarts_3 : List UInt8 := dkwX0_layStarts_3 ++ []
def dkwX0_layStarts_2 : List UInt8 := [21, 4, 4, 96, 167, 0, 4, 3, 54, 4, 45, 21, 5, 21, 4, 43, 28, 182, 0, 184, 161, 0, 8]
abbrev dktX0_layStarts_2 : List UInt8 := dkwX0_layStarts_2 ++ dktX0_layStarts_3
def dkwX0_layStarts_1 : List UInt8 := [54, 5, 21, 5, 155, 0, 60, 42, 180, 0, 31, 21, 5, 46, 43, 21, 5, 182, 0, 170, 163, 0, 10]
abbrev dktX0_layStarts_1 : List UInt8 := dkwX0_layStarts_1 ++ dktX0_layStarts_2
def dkwX0_layStarts_0 : List UInt8 := [42, 180, 0, 37, 43, 180, 0, 181, 50, 78, 45, 17, 7, 208, 17, 7, 209, 79, 3, 54, 4, 17, 7, 207]
abbrev dktX0_layStarts_0 : List UInt8 := dkwX0_layStarts_0 ++ dktX0_layStarts_1
theorem dksX0_layStarts_0 : cX0_layStarts.data.toList.drop 0 = dktX0_layStarts_0 := by decide +kernel
theorem dksX0_layStarts_1 : cX0_layStarts.data.toList.drop 24 = dktX0_layStarts_1 := dk_seg dksX0_layStarts_0 24 rfl rfl
theorem dksX0_layStarts_2 : cX0_layStarts.data.toList.drop 47 = dktX0_layStarts_2 := dk_seg dksX0_layStarts_1 23 rfl rfl
theorem dksX0_layStarts_3 : cX0_layStarts.data.toList.drop 70 = dktX0_layStarts_3 := dk_seg dksX0_layStarts_2 23 rfl rfl
theorem dX0_layStarts_0 : decode cX0_layStarts 0 = .ok (.aload_n 0, 1) := dk_42 (dk_at dksX0_layStarts_0 0 rfl rfl)
theorem dX0_layStarts_1 : decode cX0_layStarts 1 = .ok (.getfield 37, 3) := dk_180 0 37 (dk_at dksX0_layStarts_0 1 rfl rfl)
theorem dX0_layStarts_4 : decode cX0_layStarts 4 = .ok (.aload_n 1, 1) := dk_43 (dk_at dksX0_layStarts_0 4 rfl rfl)
theorem dX0_layStarts_5 : decode cX0_layStarts 5 = .ok (.getfield 181, 3) := dk_180 0 181 (dk_at dksX0_layStarts_0 5 rfl rfl)
theorem dX0_layStarts_8 : decode cX0_layStarts 8 = .ok (.aaload, 1) := dk_50 (dk_at dksX0_layStarts_0 8 rfl rfl)
theorem dX0_layStarts_9 : decode cX0_layStarts 9 = .ok (.astore_n 3, 1) := dk_78 (dk_at dksX0_layStarts_0 9 rfl rfl)
theorem dX0_layStarts_10 : decode cX0_layStarts 10 = .ok (.aload_n 3, 1) := dk_45 (dk_at dksX0_layStarts_0 10 rfl rfl)
theorem dX0_layStarts_11 : decode cX0_layStarts 11 = .ok (.sipush 2000, 3) := dk_17 7 208 (dk_at dksX0_layStarts_0 11 rfl rfl)
theorem dX0_layStarts_14 : decode cX0_layStarts 14 = .ok (.sipush 2001, 3) := dk_17 7 209 (dk_at dksX0_layStarts_0 14 rfl rfl)
theorem dX0_layStarts_17 : decode cX0_layStarts 17 = .ok (.iastore, 1) := dk_79 (dk_at dksX0_layStarts_0 17 rfl rfl)
theorem dX0_layStarts_18 : decode cX0_layStarts 18 = .ok (.iconst 0, 1) := dk_3 (dk_at dksX0_layStarts_0 18 rfl rfl)
theorem dX0_layStarts_19 : decode cX0_layStarts 19 = .ok (.istore 4, 2) := dk_54 4 (dk_at dksX0_layStarts_0 19 rfl rfl)
theorem dX0_layStarts_21 : decode cX0_layStarts 21 = .ok (.sipush 1999, 3) := dk_17 7 207 (dk_at dksX0_layStarts_0 21 rfl rfl)
theorem dX0_layStarts_24 : decode cX0_layStarts 24 = .ok (.istore 5, 2) := dk_54 5 (dk_at dksX0_layStarts_1 0 rfl rfl)
theorem dX0_layStarts_26 : decode cX0_layStarts 26 = .ok (.iload 5, 2) := dk_21 5 (dk_at dksX0_layStarts_1 2 rfl rfl)
theorem dX0_layStarts_28 : decode cX0_layStarts 28 = .ok (.ifCond .lt 60, 3) := dk_155 0 60 (dk_at dksX0_layStarts_1 4 rfl rfl)
theorem dX0_layStarts_31 : decode cX0_layStarts 31 = .ok (.aload_n 0, 1) := dk_42 (dk_at dksX0_layStarts_1 7 rfl rfl)
theorem dX0_layStarts_32 : decode cX0_layStarts 32 = .ok (.getfield 31, 3) := dk_180 0 31 (dk_at dksX0_layStarts_1 8 rfl rfl)
theorem dX0_layStarts_35 : decode cX0_layStarts 35 = .ok (.iload 5, 2) := dk_21 5 (dk_at dksX0_layStarts_1 11 rfl rfl)
theorem dX0_layStarts_37 : decode cX0_layStarts 37 = .ok (.iaload, 1) := dk_46 (dk_at dksX0_layStarts_1 13 rfl rfl)
theorem dX0_layStarts_38 : decode cX0_layStarts 38 = .ok (.aload_n 1, 1) := dk_43 (dk_at dksX0_layStarts_1 14 rfl rfl)
theorem dX0_layStarts_39 : decode cX0_layStarts 39 = .ok (.iload 5, 2) := dk_21 5 (dk_at dksX0_layStarts_1 15 rfl rfl)
theorem dX0_layStarts_41 : decode cX0_layStarts 41 = .ok (.invokevirtual 170, 3) := dk_182 0 170 (dk_at dksX0_layStarts_1 17 rfl rfl)
theorem dX0_layStarts_44 : decode cX0_layStarts 44 = .ok (.if_icmp .gt 10, 3) := dk_163 0 10 (dk_at dksX0_layStarts_1 20 rfl rfl)
theorem dX0_layStarts_47 : decode cX0_layStarts 47 = .ok (.iload 4, 2) := dk_21 4 (dk_at dksX0_layStarts_2 0 rfl rfl)
theorem dX0_layStarts_49 : decode cX0_layStarts 49 = .ok (.iconst 1, 1) := dk_4 (dk_at dksX0_layStarts_2 2 rfl rfl)
theorem dX0_layStarts_50 : decode cX0_layStarts 50 = .ok (.iadd, 1) := dk_96 (dk_at dksX0_layStarts_2 3 rfl rfl)
theorem dX0_layStarts_51 : decode cX0_layStarts 51 = .ok (.goto 4, 3) := dk_167 0 4 (dk_at dksX0_layStarts_2 4 rfl rfl)
theorem dX0_layStarts_54 : decode cX0_layStarts 54 = .ok (.iconst 0, 1) := dk_3 (dk_at dksX0_layStarts_2 7 rfl rfl)
theorem dX0_layStarts_55 : decode cX0_layStarts 55 = .ok (.istore 4, 2) := dk_54 4 (dk_at dksX0_layStarts_2 8 rfl rfl)
theorem dX0_layStarts_57 : decode cX0_layStarts 57 = .ok (.aload_n 3, 1) := dk_45 (dk_at dksX0_layStarts_2 10 rfl rfl)
theorem dX0_layStarts_58 : decode cX0_layStarts 58 = .ok (.iload 5, 2) := dk_21 5 (dk_at dksX0_layStarts_2 11 rfl rfl)
theorem dX0_layStarts_60 : decode cX0_layStarts 60 = .ok (.iload 4, 2) := dk_21 4 (dk_at dksX0_layStarts_2 13 rfl rfl)
theorem dX0_layStarts_62 : decode cX0_layStarts 62 = .ok (.aload_n 1, 1) := dk_43 (dk_at dksX0_layStarts_2 15 rfl rfl)
theorem dX0_layStarts_63 : decode cX0_layStarts 63 = .ok (.iload_n 2, 1) := dk_28 (dk_at dksX0_layStarts_2 16 rfl rfl)
theorem dX0_layStarts_64 : decode cX0_layStarts 64 = .ok (.invokevirtual 184, 3) := dk_182 0 184 (dk_at dksX0_layStarts_2 17 rfl rfl)
theorem dX0_layStarts_67 : decode cX0_layStarts 67 = .ok (.if_icmp .lt 8, 3) := dk_161 0 8 (dk_at dksX0_layStarts_2 20 rfl rfl)
theorem dX0_layStarts_70 : decode cX0_layStarts 70 = .ok (.iload 5, 2) := dk_21 5 (dk_at dksX0_layStarts_3 0 rfl rfl)
theorem dX0_layStarts_72 : decode cX0_layStarts 72 = .ok (.goto 9, 3) := dk_167 0 9 (dk_at dksX0_layStarts_3 2 rfl rfl)
theorem dX0_layStarts_75 : decode cX0_layStarts 75 = .ok (.aload_n 3, 1) := dk_45 (dk_at dksX0_layStarts_3 5 rfl rfl)
theorem dX0_layStarts_76 : decode cX0_layStarts 76 = .ok (.iload 5, 2) := dk_21 5 (dk_at dksX0_layStarts_3 6 rfl rfl)
theorem dX0_layStarts_78 : decode cX0_layStarts 78 = .ok (.iconst 1, 1) := dk_4 (dk_at dksX0_layStarts_3 8 rfl rfl)
theorem dX0_layStarts_79 : decode cX0_layStarts 79 = .ok (.iadd, 1) := dk_96 (dk_at dksX0_layStarts_3 9 rfl rfl)
theorem dX0_layStarts_80 : decode cX0_layStarts 80 = .ok (.iaload, 1) := dk_46 (dk_at dksX0_layStarts_3 10 rfl rfl)
theorem dX0_layStarts_81 : decode cX0_layStarts 81 = .ok (.iastore, 1) := dk_79 (dk_at dksX0_layStarts_3 11 rfl rfl)
theorem dX0_layStarts_82 : decode cX0_layStarts 82 = .ok (.iinc 5 (-1), 3) := dk_132 5 255 (dk_at dksX0_layStarts_3 12 rfl rfl)
theorem dX0_layStarts_85 : decode cX0_layStarts 85 = .ok (.goto (-59), 3) := dk_167 255 197 (dk_at dksX0_layStarts_3 15 rfl rfl)
theorem dX0_layStarts_88 : decode cX0_layStarts 88 = .ok (.return_, 1) := dk_177 (dk_at dksX0_layStarts_3 18 rfl rfl)
abbrev cX0_soonest : ByteArray := prog_1_method_31_code
def yX0_soonest : MethodName := ⟨RX0, "soonest", "(IIIZ)I"⟩
def dkwX0_soonest_2 : List UInt8 := [28, 46, 184, 0, 217, 172]
abbrev dktX0_soonest_2 : List UInt8 := dkwX0_soonest_2 ++ []
def dkwX0_soonest_1 : List UInt8 := [154, 0, 6, 16, 254, 172, 42, 21, 4, 182, 0, 209, 42, 27, 29, 21, 4, 182, 0, 213, 42, 180, 0, 40]
abbrev dktX0_soonest_1 : List UInt8 := dkwX0_soonest_1 ++ dktX0_soonest_2
def dkwX0_soonest_0 : List UInt8 := [42, 27, 182, 0, 142, 154, 0, 11, 42, 28, 182, 0, 142, 153, 0, 5, 2, 172, 29, 184, 0, 125]
abbrev dktX0_soonest_0 : List UInt8 := dkwX0_soonest_0 ++ dktX0_soonest_1
theorem dksX0_soonest_0 : cX0_soonest.data.toList.drop 0 = dktX0_soonest_0 := by decide +kernel
theorem dksX0_soonest_1 : cX0_soonest.data.toList.drop 22 = dktX0_soonest_1 := dk_seg dksX0_soonest_0 22 rfl rfl
theorem dksX0_soonest_2 : cX0_soonest.data.toList.drop 46 = dktX0_soonest_2 := dk_seg dksX0_soonest_1 24 rfl rfl
theorem dX0_soonest_0 : decode cX0_soonest 0 = .ok (.aload_n 0, 1) := dk_42 (dk_at dksX0_soonest_0 0 rfl rfl)
theorem dX0_soonest_1 : decode cX0_soonest 1 = .ok (.iload_n 1, 1) := dk_27 (dk_at dksX0_soonest_0 1 rfl rfl)
theorem dX0_soonest_2 : decode cX0_soonest 2 = .ok (.invokevirtual 142, 3) := dk_182 0 142 (dk_at dksX0_soonest_0 2 rfl rfl)
theorem dX0_soonest_5 : decode cX0_soonest 5 = .ok (.ifCond .ne 11, 3) := dk_154 0 11 (dk_at dksX0_soonest_0 5 rfl rfl)
theorem dX0_soonest_8 : decode cX0_soonest 8 = .ok (.aload_n 0, 1) := dk_42 (dk_at dksX0_soonest_0 8 rfl rfl)
theorem dX0_soonest_9 : decode cX0_soonest 9 = .ok (.iload_n 2, 1) := dk_28 (dk_at dksX0_soonest_0 9 rfl rfl)
theorem dX0_soonest_10 : decode cX0_soonest 10 = .ok (.invokevirtual 142, 3) := dk_182 0 142 (dk_at dksX0_soonest_0 10 rfl rfl)
theorem dX0_soonest_13 : decode cX0_soonest 13 = .ok (.ifCond .eq 5, 3) := dk_153 0 5 (dk_at dksX0_soonest_0 13 rfl rfl)
theorem dX0_soonest_16 : decode cX0_soonest 16 = .ok (.iconst (-1), 1) := dk_2 (dk_at dksX0_soonest_0 16 rfl rfl)
theorem dX0_soonest_17 : decode cX0_soonest 17 = .ok (.ireturn, 1) := dk_172 (dk_at dksX0_soonest_0 17 rfl rfl)
theorem dX0_soonest_18 : decode cX0_soonest 18 = .ok (.iload_n 3, 1) := dk_29 (dk_at dksX0_soonest_0 18 rfl rfl)
theorem dX0_soonest_19 : decode cX0_soonest 19 = .ok (.invokestatic 125, 3) := dk_184 0 125 (dk_at dksX0_soonest_0 19 rfl rfl)
theorem dX0_soonest_22 : decode cX0_soonest 22 = .ok (.ifCond .ne 6, 3) := dk_154 0 6 (dk_at dksX0_soonest_1 0 rfl rfl)
theorem dX0_soonest_25 : decode cX0_soonest 25 = .ok (.bipush (-2), 2) := dk_16 254 (dk_at dksX0_soonest_1 3 rfl rfl)
theorem dX0_soonest_27 : decode cX0_soonest 27 = .ok (.ireturn, 1) := dk_172 (dk_at dksX0_soonest_1 5 rfl rfl)
theorem dX0_soonest_28 : decode cX0_soonest 28 = .ok (.aload_n 0, 1) := dk_42 (dk_at dksX0_soonest_1 6 rfl rfl)
theorem dX0_soonest_29 : decode cX0_soonest 29 = .ok (.iload 4, 2) := dk_21 4 (dk_at dksX0_soonest_1 7 rfl rfl)
theorem dX0_soonest_31 : decode cX0_soonest 31 = .ok (.invokevirtual 209, 3) := dk_182 0 209 (dk_at dksX0_soonest_1 9 rfl rfl)
theorem dX0_soonest_34 : decode cX0_soonest 34 = .ok (.aload_n 0, 1) := dk_42 (dk_at dksX0_soonest_1 12 rfl rfl)
theorem dX0_soonest_35 : decode cX0_soonest 35 = .ok (.iload_n 1, 1) := dk_27 (dk_at dksX0_soonest_1 13 rfl rfl)
theorem dX0_soonest_36 : decode cX0_soonest 36 = .ok (.iload_n 3, 1) := dk_29 (dk_at dksX0_soonest_1 14 rfl rfl)
theorem dX0_soonest_37 : decode cX0_soonest 37 = .ok (.iload 4, 2) := dk_21 4 (dk_at dksX0_soonest_1 15 rfl rfl)
theorem dX0_soonest_39 : decode cX0_soonest 39 = .ok (.invokevirtual 213, 3) := dk_182 0 213 (dk_at dksX0_soonest_1 17 rfl rfl)
theorem dX0_soonest_42 : decode cX0_soonest 42 = .ok (.aload_n 0, 1) := dk_42 (dk_at dksX0_soonest_1 20 rfl rfl)
theorem dX0_soonest_43 : decode cX0_soonest 43 = .ok (.getfield 40, 3) := dk_180 0 40 (dk_at dksX0_soonest_1 21 rfl rfl)
theorem dX0_soonest_46 : decode cX0_soonest 46 = .ok (.iload_n 2, 1) := dk_28 (dk_at dksX0_soonest_2 0 rfl rfl)
theorem dX0_soonest_47 : decode cX0_soonest 47 = .ok (.iaload, 1) := dk_46 (dk_at dksX0_soonest_2 1 rfl rfl)
theorem dX0_soonest_48 : decode cX0_soonest 48 = .ok (.invokestatic 217, 3) := dk_184 0 217 (dk_at dksX0_soonest_2 2 rfl rfl)
theorem dX0_soonest_51 : decode cX0_soonest 51 = .ok (.ireturn, 1) := dk_172 (dk_at dksX0_soonest_2 5 rfl rfl)
abbrev cX0_layAll : ByteArray := prog_1_method_27_code
def yX0_layAll : MethodName := ⟨RX0, "layAll", "(Z)V"⟩
def dkwX0_layAll_1 : List UInt8 := [28, 185, 0, 112, 2, 0, 192, 0, 147, 27, 182, 0, 191, 132, 2, 1, 167, 255, 222, 177]
abbrev dktX0_layAll_1 : List UInt8 := dkwX0_layAll_1 ++ []
def dkwX0_layAll_0 : List UInt8 := [42, 182, 0, 188, 3, 61, 28, 42, 180, 0, 28, 185, 0, 65, 1, 0, 162, 0, 27, 42, 42, 180, 0, 28]
abbrev dktX0_layAll_0 : List UInt8 := dkwX0_layAll_0 ++ dktX0_layAll_1
theorem dksX0_layAll_0 : cX0_layAll.data.toList.drop 0 = dktX0_layAll_0 := by decide +kernel
theorem dksX0_layAll_1 : cX0_layAll.data.toList.drop 24 = dktX0_layAll_1 := dk_seg dksX0_layAll_0 24 rfl rfl
theorem dX0_layAll_0 : decode cX0_layAll 0 = .ok (.aload_n 0, 1) := dk_42 (dk_at dksX0_layAll_0 0 rfl rfl)
theorem dX0_layAll_1 : decode cX0_layAll 1 = .ok (.invokevirtual 188, 3) := dk_182 0 188 (dk_at dksX0_layAll_0 1 rfl rfl)
theorem dX0_layAll_4 : decode cX0_layAll 4 = .ok (.iconst 0, 1) := dk_3 (dk_at dksX0_layAll_0 4 rfl rfl)
theorem dX0_layAll_5 : decode cX0_layAll 5 = .ok (.istore_n 2, 1) := dk_61 (dk_at dksX0_layAll_0 5 rfl rfl)
theorem dX0_layAll_6 : decode cX0_layAll 6 = .ok (.iload_n 2, 1) := dk_28 (dk_at dksX0_layAll_0 6 rfl rfl)
theorem dX0_layAll_7 : decode cX0_layAll 7 = .ok (.aload_n 0, 1) := dk_42 (dk_at dksX0_layAll_0 7 rfl rfl)
theorem dX0_layAll_8 : decode cX0_layAll 8 = .ok (.getfield 28, 3) := dk_180 0 28 (dk_at dksX0_layAll_0 8 rfl rfl)
theorem dX0_layAll_11 : decode cX0_layAll 11 = .ok (.invokeinterface 65 1, 5) := by decide +kernel
theorem dX0_layAll_16 : decode cX0_layAll 16 = .ok (.if_icmp .ge 27, 3) := dk_162 0 27 (dk_at dksX0_layAll_0 16 rfl rfl)
theorem dX0_layAll_19 : decode cX0_layAll 19 = .ok (.aload_n 0, 1) := dk_42 (dk_at dksX0_layAll_0 19 rfl rfl)
theorem dX0_layAll_20 : decode cX0_layAll 20 = .ok (.aload_n 0, 1) := dk_42 (dk_at dksX0_layAll_0 20 rfl rfl)
theorem dX0_layAll_21 : decode cX0_layAll 21 = .ok (.getfield 28, 3) := dk_180 0 28 (dk_at dksX0_layAll_0 21 rfl rfl)
theorem dX0_layAll_24 : decode cX0_layAll 24 = .ok (.iload_n 2, 1) := dk_28 (dk_at dksX0_layAll_1 0 rfl rfl)
theorem dX0_layAll_25 : decode cX0_layAll 25 = .ok (.invokeinterface 112 2, 5) := by decide +kernel
theorem dX0_layAll_30 : decode cX0_layAll 30 = .ok (.checkcast 147, 3) := dk_192 0 147 (dk_at dksX0_layAll_1 6 rfl rfl)
theorem dX0_layAll_33 : decode cX0_layAll 33 = .ok (.iload_n 1, 1) := dk_27 (dk_at dksX0_layAll_1 9 rfl rfl)
theorem dX0_layAll_34 : decode cX0_layAll 34 = .ok (.invokevirtual 191, 3) := dk_182 0 191 (dk_at dksX0_layAll_1 10 rfl rfl)
theorem dX0_layAll_37 : decode cX0_layAll 37 = .ok (.iinc 2 1, 3) := dk_132 2 1 (dk_at dksX0_layAll_1 13 rfl rfl)
theorem dX0_layAll_40 : decode cX0_layAll 40 = .ok (.goto (-34), 3) := dk_167 255 222 (dk_at dksX0_layAll_1 16 rfl rfl)
theorem dX0_layAll_43 : decode cX0_layAll 43 = .ok (.return_, 1) := dk_177 (dk_at dksX0_layAll_1 19 rfl rfl)
abbrev cX0_go : ByteArray := prog_1_method_29_code
def yX0_go : MethodName := ⟨RX0, "go", "(IIZ)V"⟩
def dkwX0_go_10 : List UInt8 := [25, 8, 29, 182, 0, 184, 96, 184, 0, 204, 79, 132, 7, 1, 167, 255, 134, 132, 5, 1, 167, 255, 44, 177]
abbrev dktX0_go_10 : List UInt8 := dkwX0_go_10 ++ []
def dkwX0_go_9 : List UInt8 := [25, 8, 21, 6, 182, 0, 201, 54, 10, 42, 180, 0, 40, 21, 10, 42, 180, 0, 40, 21, 10, 46, 21, 9]
abbrev dktX0_go_9 : List UInt8 := dkwX0_go_9 ++ dktX0_go_10
def dkwX0_go_8 : List UInt8 := [180, 0, 40, 21, 6, 46, 46, 167, 0, 6, 17, 7, 209, 54, 9, 21, 9, 17, 7, 209, 162, 0, 38]
abbrev dktX0_go_8 : List UInt8 := dkwX0_go_8 ++ dktX0_go_9
def dkwX0_go_7 : List UInt8 := [192, 0, 147, 58, 8, 25, 8, 21, 6, 182, 0, 198, 153, 0, 21, 42, 180, 0, 37, 21, 7, 50, 42]
abbrev dktX0_go_7 : List UInt8 := dkwX0_go_7 ++ dktX0_go_8
def dkwX0_go_6 : List UInt8 := [180, 0, 40, 21, 6, 46, 17, 7, 209, 162, 0, 101, 42, 180, 0, 28, 21, 7, 185, 0, 112, 2, 0]
abbrev dktX0_go_6 : List UInt8 := dkwX0_go_6 ++ dktX0_go_7
def dkwX0_go_5 : List UInt8 := [21, 6, 120, 128, 54, 4, 3, 54, 7, 21, 7, 42, 180, 0, 28, 185, 0, 65, 1, 0, 162, 0, 114, 42]
abbrev dktX0_go_5 : List UInt8 := dkwX0_go_5 ++ dktX0_go_6
def dkwX0_go_4 : List UInt8 := [21, 6, 46, 162, 0, 8, 21, 7, 167, 0, 5, 21, 6, 54, 6, 132, 7, 1, 167, 255, 203, 21, 4, 4]
abbrev dktX0_go_4 : List UInt8 := dkwX0_go_4 ++ dktX0_go_5
def dkwX0_go_3 : List UInt8 := [21, 7, 184, 0, 195, 154, 0, 30, 21, 6, 155, 0, 20, 42, 180, 0, 40, 21, 7, 46, 42, 180, 0, 40]
abbrev dktX0_go_3 : List UInt8 := dkwX0_go_3 ++ dktX0_go_4
def dkwX0_go_2 : List UInt8 := [180, 0, 61, 162, 0, 209, 16, 247, 54, 6, 3, 54, 7, 21, 7, 42, 180, 0, 61, 162, 0, 50, 21, 4]
abbrev dktX0_go_2 : List UInt8 := dkwX0_go_2 ++ dktX0_go_3
def dkwX0_go_1 : List UInt8 := [167, 0, 6, 17, 7, 209, 79, 132, 4, 1, 167, 255, 226, 3, 54, 4, 3, 54, 5, 21, 5, 42]
abbrev dktX0_go_1 : List UInt8 := dkwX0_go_1 ++ dktX0_go_2
def dkwX0_go_0 : List UInt8 := [3, 54, 4, 21, 4, 16, 6, 162, 0, 29, 42, 180, 0, 40, 21, 4, 21, 4, 27, 160, 0, 7, 28]
abbrev dktX0_go_0 : List UInt8 := dkwX0_go_0 ++ dktX0_go_1
theorem dksX0_go_0 : cX0_go.data.toList.drop 0 = dktX0_go_0 := by decide +kernel
theorem dksX0_go_1 : cX0_go.data.toList.drop 23 = dktX0_go_1 := dk_seg dksX0_go_0 23 rfl rfl
theorem dksX0_go_2 : cX0_go.data.toList.drop 45 = dktX0_go_2 := dk_seg dksX0_go_1 22 rfl rfl
theorem dksX0_go_3 : cX0_go.data.toList.drop 69 = dktX0_go_3 := dk_seg dksX0_go_2 24 rfl rfl
theorem dksX0_go_4 : cX0_go.data.toList.drop 93 = dktX0_go_4 := dk_seg dksX0_go_3 24 rfl rfl
theorem dksX0_go_5 : cX0_go.data.toList.drop 117 = dktX0_go_5 := dk_seg dksX0_go_4 24 rfl rfl
theorem dksX0_go_6 : cX0_go.data.toList.drop 141 = dktX0_go_6 := dk_seg dksX0_go_5 24 rfl rfl
theorem dksX0_go_7 : cX0_go.data.toList.drop 164 = dktX0_go_7 := dk_seg dksX0_go_6 23 rfl rfl
theorem dksX0_go_8 : cX0_go.data.toList.drop 187 = dktX0_go_8 := dk_seg dksX0_go_7 23 rfl rfl
theorem dksX0_go_9 : cX0_go.data.toList.drop 210 = dktX0_go_9 := dk_seg dksX0_go_8 23 rfl rfl
theorem dksX0_go_10 : cX0_go.data.toList.drop 234 = dktX0_go_10 := dk_seg dksX0_go_9 24 rfl rfl
theorem dX0_go_0 : decode cX0_go 0 = .ok (.iconst 0, 1) := dk_3 (dk_at dksX0_go_0 0 rfl rfl)
theorem dX0_go_1 : decode cX0_go 1 = .ok (.istore 4, 2) := dk_54 4 (dk_at dksX0_go_0 1 rfl rfl)
theorem dX0_go_3 : decode cX0_go 3 = .ok (.iload 4, 2) := dk_21 4 (dk_at dksX0_go_0 3 rfl rfl)
theorem dX0_go_5 : decode cX0_go 5 = .ok (.bipush 6, 2) := dk_16 6 (dk_at dksX0_go_0 5 rfl rfl)
theorem dX0_go_7 : decode cX0_go 7 = .ok (.if_icmp .ge 29, 3) := dk_162 0 29 (dk_at dksX0_go_0 7 rfl rfl)
theorem dX0_go_10 : decode cX0_go 10 = .ok (.aload_n 0, 1) := dk_42 (dk_at dksX0_go_0 10 rfl rfl)
theorem dX0_go_11 : decode cX0_go 11 = .ok (.getfield 40, 3) := dk_180 0 40 (dk_at dksX0_go_0 11 rfl rfl)
theorem dX0_go_14 : decode cX0_go 14 = .ok (.iload 4, 2) := dk_21 4 (dk_at dksX0_go_0 14 rfl rfl)
theorem dX0_go_16 : decode cX0_go 16 = .ok (.iload 4, 2) := dk_21 4 (dk_at dksX0_go_0 16 rfl rfl)
theorem dX0_go_18 : decode cX0_go 18 = .ok (.iload_n 1, 1) := dk_27 (dk_at dksX0_go_0 18 rfl rfl)
theorem dX0_go_19 : decode cX0_go 19 = .ok (.if_icmp .ne 7, 3) := dk_160 0 7 (dk_at dksX0_go_0 19 rfl rfl)
theorem dX0_go_22 : decode cX0_go 22 = .ok (.iload_n 2, 1) := dk_28 (dk_at dksX0_go_0 22 rfl rfl)
theorem dX0_go_23 : decode cX0_go 23 = .ok (.goto 6, 3) := dk_167 0 6 (dk_at dksX0_go_1 0 rfl rfl)
theorem dX0_go_26 : decode cX0_go 26 = .ok (.sipush 2001, 3) := dk_17 7 209 (dk_at dksX0_go_1 3 rfl rfl)
theorem dX0_go_29 : decode cX0_go 29 = .ok (.iastore, 1) := dk_79 (dk_at dksX0_go_1 6 rfl rfl)
theorem dX0_go_30 : decode cX0_go 30 = .ok (.iinc 4 1, 3) := dk_132 4 1 (dk_at dksX0_go_1 7 rfl rfl)
theorem dX0_go_33 : decode cX0_go 33 = .ok (.goto (-30), 3) := dk_167 255 226 (dk_at dksX0_go_1 10 rfl rfl)
theorem dX0_go_36 : decode cX0_go 36 = .ok (.iconst 0, 1) := dk_3 (dk_at dksX0_go_1 13 rfl rfl)
theorem dX0_go_37 : decode cX0_go 37 = .ok (.istore 4, 2) := dk_54 4 (dk_at dksX0_go_1 14 rfl rfl)
theorem dX0_go_39 : decode cX0_go 39 = .ok (.iconst 0, 1) := dk_3 (dk_at dksX0_go_1 16 rfl rfl)
theorem dX0_go_40 : decode cX0_go 40 = .ok (.istore 5, 2) := dk_54 5 (dk_at dksX0_go_1 17 rfl rfl)
theorem dX0_go_42 : decode cX0_go 42 = .ok (.iload 5, 2) := dk_21 5 (dk_at dksX0_go_1 19 rfl rfl)
theorem dX0_go_44 : decode cX0_go 44 = .ok (.aload_n 0, 1) := dk_42 (dk_at dksX0_go_1 21 rfl rfl)
theorem dX0_go_45 : decode cX0_go 45 = .ok (.getfield 61, 3) := dk_180 0 61 (dk_at dksX0_go_2 0 rfl rfl)
theorem dX0_go_48 : decode cX0_go 48 = .ok (.if_icmp .ge 209, 3) := dk_162 0 209 (dk_at dksX0_go_2 3 rfl rfl)
theorem dX0_go_51 : decode cX0_go 51 = .ok (.bipush (-9), 2) := dk_16 247 (dk_at dksX0_go_2 6 rfl rfl)
theorem dX0_go_53 : decode cX0_go 53 = .ok (.istore 6, 2) := dk_54 6 (dk_at dksX0_go_2 8 rfl rfl)
theorem dX0_go_55 : decode cX0_go 55 = .ok (.iconst 0, 1) := dk_3 (dk_at dksX0_go_2 10 rfl rfl)
theorem dX0_go_56 : decode cX0_go 56 = .ok (.istore 7, 2) := dk_54 7 (dk_at dksX0_go_2 11 rfl rfl)
theorem dX0_go_58 : decode cX0_go 58 = .ok (.iload 7, 2) := dk_21 7 (dk_at dksX0_go_2 13 rfl rfl)
theorem dX0_go_60 : decode cX0_go 60 = .ok (.aload_n 0, 1) := dk_42 (dk_at dksX0_go_2 15 rfl rfl)
theorem dX0_go_61 : decode cX0_go 61 = .ok (.getfield 61, 3) := dk_180 0 61 (dk_at dksX0_go_2 16 rfl rfl)
theorem dX0_go_64 : decode cX0_go 64 = .ok (.if_icmp .ge 50, 3) := dk_162 0 50 (dk_at dksX0_go_2 19 rfl rfl)
theorem dX0_go_67 : decode cX0_go 67 = .ok (.iload 4, 2) := dk_21 4 (dk_at dksX0_go_2 22 rfl rfl)
theorem dX0_go_69 : decode cX0_go 69 = .ok (.iload 7, 2) := dk_21 7 (dk_at dksX0_go_3 0 rfl rfl)
theorem dX0_go_71 : decode cX0_go 71 = .ok (.invokestatic 195, 3) := dk_184 0 195 (dk_at dksX0_go_3 2 rfl rfl)
theorem dX0_go_74 : decode cX0_go 74 = .ok (.ifCond .ne 30, 3) := dk_154 0 30 (dk_at dksX0_go_3 5 rfl rfl)
theorem dX0_go_77 : decode cX0_go 77 = .ok (.iload 6, 2) := dk_21 6 (dk_at dksX0_go_3 8 rfl rfl)
theorem dX0_go_79 : decode cX0_go 79 = .ok (.ifCond .lt 20, 3) := dk_155 0 20 (dk_at dksX0_go_3 10 rfl rfl)
theorem dX0_go_82 : decode cX0_go 82 = .ok (.aload_n 0, 1) := dk_42 (dk_at dksX0_go_3 13 rfl rfl)
theorem dX0_go_83 : decode cX0_go 83 = .ok (.getfield 40, 3) := dk_180 0 40 (dk_at dksX0_go_3 14 rfl rfl)
theorem dX0_go_86 : decode cX0_go 86 = .ok (.iload 7, 2) := dk_21 7 (dk_at dksX0_go_3 17 rfl rfl)
theorem dX0_go_88 : decode cX0_go 88 = .ok (.iaload, 1) := dk_46 (dk_at dksX0_go_3 19 rfl rfl)
theorem dX0_go_89 : decode cX0_go 89 = .ok (.aload_n 0, 1) := dk_42 (dk_at dksX0_go_3 20 rfl rfl)
theorem dX0_go_90 : decode cX0_go 90 = .ok (.getfield 40, 3) := dk_180 0 40 (dk_at dksX0_go_3 21 rfl rfl)
theorem dX0_go_93 : decode cX0_go 93 = .ok (.iload 6, 2) := dk_21 6 (dk_at dksX0_go_4 0 rfl rfl)
theorem dX0_go_95 : decode cX0_go 95 = .ok (.iaload, 1) := dk_46 (dk_at dksX0_go_4 2 rfl rfl)
theorem dX0_go_96 : decode cX0_go 96 = .ok (.if_icmp .ge 8, 3) := dk_162 0 8 (dk_at dksX0_go_4 3 rfl rfl)
theorem dX0_go_99 : decode cX0_go 99 = .ok (.iload 7, 2) := dk_21 7 (dk_at dksX0_go_4 6 rfl rfl)
theorem dX0_go_101 : decode cX0_go 101 = .ok (.goto 5, 3) := dk_167 0 5 (dk_at dksX0_go_4 8 rfl rfl)
theorem dX0_go_104 : decode cX0_go 104 = .ok (.iload 6, 2) := dk_21 6 (dk_at dksX0_go_4 11 rfl rfl)
theorem dX0_go_106 : decode cX0_go 106 = .ok (.istore 6, 2) := dk_54 6 (dk_at dksX0_go_4 13 rfl rfl)
theorem dX0_go_108 : decode cX0_go 108 = .ok (.iinc 7 1, 3) := dk_132 7 1 (dk_at dksX0_go_4 15 rfl rfl)
theorem dX0_go_111 : decode cX0_go 111 = .ok (.goto (-53), 3) := dk_167 255 203 (dk_at dksX0_go_4 18 rfl rfl)
theorem dX0_go_114 : decode cX0_go 114 = .ok (.iload 4, 2) := dk_21 4 (dk_at dksX0_go_4 21 rfl rfl)
theorem dX0_go_116 : decode cX0_go 116 = .ok (.iconst 1, 1) := dk_4 (dk_at dksX0_go_4 23 rfl rfl)
theorem dX0_go_117 : decode cX0_go 117 = .ok (.iload 6, 2) := dk_21 6 (dk_at dksX0_go_5 0 rfl rfl)
theorem dX0_go_119 : decode cX0_go 119 = .ok (.ishl, 1) := dk_120 (dk_at dksX0_go_5 2 rfl rfl)
theorem dX0_go_120 : decode cX0_go 120 = .ok (.ior, 1) := dk_128 (dk_at dksX0_go_5 3 rfl rfl)
theorem dX0_go_121 : decode cX0_go 121 = .ok (.istore 4, 2) := dk_54 4 (dk_at dksX0_go_5 4 rfl rfl)
theorem dX0_go_123 : decode cX0_go 123 = .ok (.iconst 0, 1) := dk_3 (dk_at dksX0_go_5 6 rfl rfl)
theorem dX0_go_124 : decode cX0_go 124 = .ok (.istore 7, 2) := dk_54 7 (dk_at dksX0_go_5 7 rfl rfl)
theorem dX0_go_126 : decode cX0_go 126 = .ok (.iload 7, 2) := dk_21 7 (dk_at dksX0_go_5 9 rfl rfl)
theorem dX0_go_128 : decode cX0_go 128 = .ok (.aload_n 0, 1) := dk_42 (dk_at dksX0_go_5 11 rfl rfl)
theorem dX0_go_129 : decode cX0_go 129 = .ok (.getfield 28, 3) := dk_180 0 28 (dk_at dksX0_go_5 12 rfl rfl)
theorem dX0_go_132 : decode cX0_go 132 = .ok (.invokeinterface 65 1, 5) := by decide +kernel
theorem dX0_go_137 : decode cX0_go 137 = .ok (.if_icmp .ge 114, 3) := dk_162 0 114 (dk_at dksX0_go_5 20 rfl rfl)
theorem dX0_go_140 : decode cX0_go 140 = .ok (.aload_n 0, 1) := dk_42 (dk_at dksX0_go_5 23 rfl rfl)
theorem dX0_go_141 : decode cX0_go 141 = .ok (.getfield 40, 3) := dk_180 0 40 (dk_at dksX0_go_6 0 rfl rfl)
theorem dX0_go_144 : decode cX0_go 144 = .ok (.iload 6, 2) := dk_21 6 (dk_at dksX0_go_6 3 rfl rfl)
theorem dX0_go_146 : decode cX0_go 146 = .ok (.iaload, 1) := dk_46 (dk_at dksX0_go_6 5 rfl rfl)
theorem dX0_go_147 : decode cX0_go 147 = .ok (.sipush 2001, 3) := dk_17 7 209 (dk_at dksX0_go_6 6 rfl rfl)
theorem dX0_go_150 : decode cX0_go 150 = .ok (.if_icmp .ge 101, 3) := dk_162 0 101 (dk_at dksX0_go_6 9 rfl rfl)
theorem dX0_go_153 : decode cX0_go 153 = .ok (.aload_n 0, 1) := dk_42 (dk_at dksX0_go_6 12 rfl rfl)
theorem dX0_go_154 : decode cX0_go 154 = .ok (.getfield 28, 3) := dk_180 0 28 (dk_at dksX0_go_6 13 rfl rfl)
theorem dX0_go_157 : decode cX0_go 157 = .ok (.iload 7, 2) := dk_21 7 (dk_at dksX0_go_6 16 rfl rfl)
theorem dX0_go_159 : decode cX0_go 159 = .ok (.invokeinterface 112 2, 5) := by decide +kernel
theorem dX0_go_164 : decode cX0_go 164 = .ok (.checkcast 147, 3) := dk_192 0 147 (dk_at dksX0_go_7 0 rfl rfl)
theorem dX0_go_167 : decode cX0_go 167 = .ok (.astore 8, 2) := dk_58 8 (dk_at dksX0_go_7 3 rfl rfl)
theorem dX0_go_169 : decode cX0_go 169 = .ok (.aload 8, 2) := dk_25 8 (dk_at dksX0_go_7 5 rfl rfl)
theorem dX0_go_171 : decode cX0_go 171 = .ok (.iload 6, 2) := dk_21 6 (dk_at dksX0_go_7 7 rfl rfl)
theorem dX0_go_173 : decode cX0_go 173 = .ok (.invokevirtual 198, 3) := dk_182 0 198 (dk_at dksX0_go_7 9 rfl rfl)
theorem dX0_go_176 : decode cX0_go 176 = .ok (.ifCond .eq 21, 3) := dk_153 0 21 (dk_at dksX0_go_7 12 rfl rfl)
theorem dX0_go_179 : decode cX0_go 179 = .ok (.aload_n 0, 1) := dk_42 (dk_at dksX0_go_7 15 rfl rfl)
theorem dX0_go_180 : decode cX0_go 180 = .ok (.getfield 37, 3) := dk_180 0 37 (dk_at dksX0_go_7 16 rfl rfl)
theorem dX0_go_183 : decode cX0_go 183 = .ok (.iload 7, 2) := dk_21 7 (dk_at dksX0_go_7 19 rfl rfl)
theorem dX0_go_185 : decode cX0_go 185 = .ok (.aaload, 1) := dk_50 (dk_at dksX0_go_7 21 rfl rfl)
theorem dX0_go_186 : decode cX0_go 186 = .ok (.aload_n 0, 1) := dk_42 (dk_at dksX0_go_7 22 rfl rfl)
theorem dX0_go_187 : decode cX0_go 187 = .ok (.getfield 40, 3) := dk_180 0 40 (dk_at dksX0_go_8 0 rfl rfl)
theorem dX0_go_190 : decode cX0_go 190 = .ok (.iload 6, 2) := dk_21 6 (dk_at dksX0_go_8 3 rfl rfl)
theorem dX0_go_192 : decode cX0_go 192 = .ok (.iaload, 1) := dk_46 (dk_at dksX0_go_8 5 rfl rfl)
theorem dX0_go_193 : decode cX0_go 193 = .ok (.iaload, 1) := dk_46 (dk_at dksX0_go_8 6 rfl rfl)
theorem dX0_go_194 : decode cX0_go 194 = .ok (.goto 6, 3) := dk_167 0 6 (dk_at dksX0_go_8 7 rfl rfl)
theorem dX0_go_197 : decode cX0_go 197 = .ok (.sipush 2001, 3) := dk_17 7 209 (dk_at dksX0_go_8 10 rfl rfl)
theorem dX0_go_200 : decode cX0_go 200 = .ok (.istore 9, 2) := dk_54 9 (dk_at dksX0_go_8 13 rfl rfl)
theorem dX0_go_202 : decode cX0_go 202 = .ok (.iload 9, 2) := dk_21 9 (dk_at dksX0_go_8 15 rfl rfl)
theorem dX0_go_204 : decode cX0_go 204 = .ok (.sipush 2001, 3) := dk_17 7 209 (dk_at dksX0_go_8 17 rfl rfl)
theorem dX0_go_207 : decode cX0_go 207 = .ok (.if_icmp .ge 38, 3) := dk_162 0 38 (dk_at dksX0_go_8 20 rfl rfl)
theorem dX0_go_210 : decode cX0_go 210 = .ok (.aload 8, 2) := dk_25 8 (dk_at dksX0_go_9 0 rfl rfl)
theorem dX0_go_212 : decode cX0_go 212 = .ok (.iload 6, 2) := dk_21 6 (dk_at dksX0_go_9 2 rfl rfl)
theorem dX0_go_214 : decode cX0_go 214 = .ok (.invokevirtual 201, 3) := dk_182 0 201 (dk_at dksX0_go_9 4 rfl rfl)
theorem dX0_go_217 : decode cX0_go 217 = .ok (.istore 10, 2) := dk_54 10 (dk_at dksX0_go_9 7 rfl rfl)
theorem dX0_go_219 : decode cX0_go 219 = .ok (.aload_n 0, 1) := dk_42 (dk_at dksX0_go_9 9 rfl rfl)
theorem dX0_go_220 : decode cX0_go 220 = .ok (.getfield 40, 3) := dk_180 0 40 (dk_at dksX0_go_9 10 rfl rfl)
theorem dX0_go_223 : decode cX0_go 223 = .ok (.iload 10, 2) := dk_21 10 (dk_at dksX0_go_9 13 rfl rfl)
theorem dX0_go_225 : decode cX0_go 225 = .ok (.aload_n 0, 1) := dk_42 (dk_at dksX0_go_9 15 rfl rfl)
theorem dX0_go_226 : decode cX0_go 226 = .ok (.getfield 40, 3) := dk_180 0 40 (dk_at dksX0_go_9 16 rfl rfl)
theorem dX0_go_229 : decode cX0_go 229 = .ok (.iload 10, 2) := dk_21 10 (dk_at dksX0_go_9 19 rfl rfl)
theorem dX0_go_231 : decode cX0_go 231 = .ok (.iaload, 1) := dk_46 (dk_at dksX0_go_9 21 rfl rfl)
theorem dX0_go_232 : decode cX0_go 232 = .ok (.iload 9, 2) := dk_21 9 (dk_at dksX0_go_9 22 rfl rfl)
theorem dX0_go_234 : decode cX0_go 234 = .ok (.aload 8, 2) := dk_25 8 (dk_at dksX0_go_10 0 rfl rfl)
theorem dX0_go_236 : decode cX0_go 236 = .ok (.iload_n 3, 1) := dk_29 (dk_at dksX0_go_10 2 rfl rfl)
theorem dX0_go_237 : decode cX0_go 237 = .ok (.invokevirtual 184, 3) := dk_182 0 184 (dk_at dksX0_go_10 3 rfl rfl)
theorem dX0_go_240 : decode cX0_go 240 = .ok (.iadd, 1) := dk_96 (dk_at dksX0_go_10 6 rfl rfl)
theorem dX0_go_241 : decode cX0_go 241 = .ok (.invokestatic 204, 3) := dk_184 0 204 (dk_at dksX0_go_10 7 rfl rfl)
theorem dX0_go_244 : decode cX0_go 244 = .ok (.iastore, 1) := dk_79 (dk_at dksX0_go_10 10 rfl rfl)
theorem dX0_go_245 : decode cX0_go 245 = .ok (.iinc 7 1, 3) := dk_132 7 1 (dk_at dksX0_go_10 11 rfl rfl)
theorem dX0_go_248 : decode cX0_go 248 = .ok (.goto (-122), 3) := dk_167 255 134 (dk_at dksX0_go_10 14 rfl rfl)
theorem dX0_go_251 : decode cX0_go 251 = .ok (.iinc 5 1, 3) := dk_132 5 1 (dk_at dksX0_go_10 17 rfl rfl)
theorem dX0_go_254 : decode cX0_go 254 = .ok (.goto (-212), 3) := dk_167 255 44 (dk_at dksX0_go_10 20 rfl rfl)
theorem dX0_go_257 : decode cX0_go 257 = .ok (.return_, 1) := dk_177 (dk_at dksX0_go_10 23 rfl rfl)
abbrev cX0_isIn : ByteArray := prog_1_method_2_code
def yX0_isIn : MethodName := ⟨RX0, "isIn", "(II)Z"⟩
def dkwX0_isIn_0 : List UInt8 := [26, 27, 122, 4, 126, 4, 160, 0, 7, 4, 167, 0, 4, 3, 172]
abbrev dktX0_isIn_0 : List UInt8 := dkwX0_isIn_0 ++ []
theorem dksX0_isIn_0 : cX0_isIn.data.toList.drop 0 = dktX0_isIn_0 := by decide +kernel
theorem dX0_isIn_0 : decode cX0_isIn 0 = .ok (.iload_n 0, 1) := dk_26 (dk_at dksX0_isIn_0 0 rfl rfl)
theorem dX0_isIn_1 : decode cX0_isIn 1 = .ok (.iload_n 1, 1) := dk_27 (dk_at dksX0_isIn_0 1 rfl rfl)
theorem dX0_isIn_2 : decode cX0_isIn 2 = .ok (.ishr, 1) := dk_122 (dk_at dksX0_isIn_0 2 rfl rfl)
theorem dX0_isIn_3 : decode cX0_isIn 3 = .ok (.iconst 1, 1) := dk_4 (dk_at dksX0_isIn_0 3 rfl rfl)
theorem dX0_isIn_4 : decode cX0_isIn 4 = .ok (.iand, 1) := dk_126 (dk_at dksX0_isIn_0 4 rfl rfl)
theorem dX0_isIn_5 : decode cX0_isIn 5 = .ok (.iconst 1, 1) := dk_4 (dk_at dksX0_isIn_0 5 rfl rfl)
theorem dX0_isIn_6 : decode cX0_isIn 6 = .ok (.if_icmp .ne 7, 3) := dk_160 0 7 (dk_at dksX0_isIn_0 6 rfl rfl)
theorem dX0_isIn_9 : decode cX0_isIn 9 = .ok (.iconst 1, 1) := dk_4 (dk_at dksX0_isIn_0 9 rfl rfl)
theorem dX0_isIn_10 : decode cX0_isIn 10 = .ok (.goto 4, 3) := dk_167 0 4 (dk_at dksX0_isIn_0 10 rfl rfl)
theorem dX0_isIn_13 : decode cX0_isIn 13 = .ok (.iconst 0, 1) := dk_3 (dk_at dksX0_isIn_0 13 rfl rfl)
theorem dX0_isIn_14 : decode cX0_isIn 14 = .ok (.ireturn, 1) := dk_172 (dk_at dksX0_isIn_0 14 rfl rfl)
abbrev cX0_told : ByteArray := prog_1_method_30_code
def yX0_told : MethodName := ⟨RX0, "told", "(I)I"⟩
def dkwX0_told_0 : List UInt8 := [26, 17, 7, 209, 160, 0, 8, 16, 247, 167, 0, 4, 26, 172]
abbrev dktX0_told_0 : List UInt8 := dkwX0_told_0 ++ []
theorem dksX0_told_0 : cX0_told.data.toList.drop 0 = dktX0_told_0 := by decide +kernel
theorem dX0_told_0 : decode cX0_told 0 = .ok (.iload_n 0, 1) := dk_26 (dk_at dksX0_told_0 0 rfl rfl)
theorem dX0_told_1 : decode cX0_told 1 = .ok (.sipush 2001, 3) := dk_17 7 209 (dk_at dksX0_told_0 1 rfl rfl)
theorem dX0_told_4 : decode cX0_told 4 = .ok (.if_icmp .ne 8, 3) := dk_160 0 8 (dk_at dksX0_told_0 4 rfl rfl)
theorem dX0_told_7 : decode cX0_told 7 = .ok (.bipush (-9), 2) := dk_16 247 (dk_at dksX0_told_0 7 rfl rfl)
theorem dX0_told_9 : decode cX0_told 9 = .ok (.goto 4, 3) := dk_167 0 4 (dk_at dksX0_told_0 9 rfl rfl)
theorem dX0_told_12 : decode cX0_told 12 = .ok (.iload_n 0, 1) := dk_26 (dk_at dksX0_told_0 12 rfl rfl)
theorem dX0_told_13 : decode cX0_told 13 = .ok (.ireturn, 1) := dk_172 (dk_at dksX0_told_0 13 rfl rfl)
abbrev cX0_way : ByteArray := prog_1_method_33_code
def yX0_way : MethodName := ⟨RX0, "way", "(IIIZI)I"⟩
def dkwX0_way_6 : List UInt8 := [162, 0, 18, 42, 180, 0, 43, 21, 6, 4, 100, 21, 5, 100, 46, 167, 0, 5, 16, 247, 172]
abbrev dktX0_way_6 : List UInt8 := dkwX0_way_6 ++ []
def dkwX0_way_5 : List UInt8 := [182, 0, 201, 54, 7, 167, 255, 204, 21, 5, 156, 0, 8, 21, 6, 167, 0, 27, 21, 5, 21, 6]
abbrev dktX0_way_5 : List UInt8 := dkwX0_way_5 ++ dktX0_way_6
def dkwX0_way_4 : List UInt8 := [180, 0, 28, 42, 180, 0, 43, 21, 6, 4, 100, 46, 185, 0, 112, 2, 0, 192, 0, 147, 21, 7]
abbrev dktX0_way_4 : List UInt8 := dkwX0_way_4 ++ dktX0_way_5
def dkwX0_way_3 : List UInt8 := [159, 0, 52, 42, 180, 0, 43, 21, 6, 42, 21, 7, 21, 4, 182, 0, 220, 79, 132, 6, 1, 42]
abbrev dktX0_way_3 : List UInt8 := dkwX0_way_3 ++ dktX0_way_4
def dkwX0_way_2 : List UInt8 := [42, 180, 0, 40, 28, 46, 17, 7, 209, 160, 0, 6, 16, 247, 172, 3, 54, 6, 28, 54, 7, 21, 7, 27]
abbrev dktX0_way_2 : List UInt8 := dkwX0_way_2 ++ dktX0_way_3
def dkwX0_way_1 : List UInt8 := [29, 184, 0, 125, 154, 0, 6, 16, 254, 172, 42, 21, 4, 182, 0, 209, 42, 27, 29, 21, 4, 182, 0, 213]
abbrev dktX0_way_1 : List UInt8 := dkwX0_way_1 ++ dktX0_way_2
def dkwX0_way_0 : List UInt8 := [42, 27, 182, 0, 142, 154, 0, 17, 42, 28, 182, 0, 142, 154, 0, 9, 21, 5, 2, 162, 0, 5, 2, 172]
abbrev dktX0_way_0 : List UInt8 := dkwX0_way_0 ++ dktX0_way_1
theorem dksX0_way_0 : cX0_way.data.toList.drop 0 = dktX0_way_0 := by decide +kernel
theorem dksX0_way_1 : cX0_way.data.toList.drop 24 = dktX0_way_1 := dk_seg dksX0_way_0 24 rfl rfl
theorem dksX0_way_2 : cX0_way.data.toList.drop 48 = dktX0_way_2 := dk_seg dksX0_way_1 24 rfl rfl
theorem dksX0_way_3 : cX0_way.data.toList.drop 72 = dktX0_way_3 := dk_seg dksX0_way_2 24 rfl rfl
theorem dksX0_way_4 : cX0_way.data.toList.drop 94 = dktX0_way_4 := dk_seg dksX0_way_3 22 rfl rfl
theorem dksX0_way_5 : cX0_way.data.toList.drop 116 = dktX0_way_5 := dk_seg dksX0_way_4 22 rfl rfl
theorem dksX0_way_6 : cX0_way.data.toList.drop 138 = dktX0_way_6 := dk_seg dksX0_way_5 22 rfl rfl
theorem dX0_way_0 : decode cX0_way 0 = .ok (.aload_n 0, 1) := dk_42 (dk_at dksX0_way_0 0 rfl rfl)
theorem dX0_way_1 : decode cX0_way 1 = .ok (.iload_n 1, 1) := dk_27 (dk_at dksX0_way_0 1 rfl rfl)
theorem dX0_way_2 : decode cX0_way 2 = .ok (.invokevirtual 142, 3) := dk_182 0 142 (dk_at dksX0_way_0 2 rfl rfl)
theorem dX0_way_5 : decode cX0_way 5 = .ok (.ifCond .ne 17, 3) := dk_154 0 17 (dk_at dksX0_way_0 5 rfl rfl)
theorem dX0_way_8 : decode cX0_way 8 = .ok (.aload_n 0, 1) := dk_42 (dk_at dksX0_way_0 8 rfl rfl)
theorem dX0_way_9 : decode cX0_way 9 = .ok (.iload_n 2, 1) := dk_28 (dk_at dksX0_way_0 9 rfl rfl)
theorem dX0_way_10 : decode cX0_way 10 = .ok (.invokevirtual 142, 3) := dk_182 0 142 (dk_at dksX0_way_0 10 rfl rfl)
theorem dX0_way_13 : decode cX0_way 13 = .ok (.ifCond .ne 9, 3) := dk_154 0 9 (dk_at dksX0_way_0 13 rfl rfl)
theorem dX0_way_16 : decode cX0_way 16 = .ok (.iload 5, 2) := dk_21 5 (dk_at dksX0_way_0 16 rfl rfl)
theorem dX0_way_18 : decode cX0_way 18 = .ok (.iconst (-1), 1) := dk_2 (dk_at dksX0_way_0 18 rfl rfl)
theorem dX0_way_19 : decode cX0_way 19 = .ok (.if_icmp .ge 5, 3) := dk_162 0 5 (dk_at dksX0_way_0 19 rfl rfl)
theorem dX0_way_22 : decode cX0_way 22 = .ok (.iconst (-1), 1) := dk_2 (dk_at dksX0_way_0 22 rfl rfl)
theorem dX0_way_23 : decode cX0_way 23 = .ok (.ireturn, 1) := dk_172 (dk_at dksX0_way_0 23 rfl rfl)
theorem dX0_way_24 : decode cX0_way 24 = .ok (.iload_n 3, 1) := dk_29 (dk_at dksX0_way_1 0 rfl rfl)
theorem dX0_way_25 : decode cX0_way 25 = .ok (.invokestatic 125, 3) := dk_184 0 125 (dk_at dksX0_way_1 1 rfl rfl)
theorem dX0_way_28 : decode cX0_way 28 = .ok (.ifCond .ne 6, 3) := dk_154 0 6 (dk_at dksX0_way_1 4 rfl rfl)
theorem dX0_way_31 : decode cX0_way 31 = .ok (.bipush (-2), 2) := dk_16 254 (dk_at dksX0_way_1 7 rfl rfl)
theorem dX0_way_33 : decode cX0_way 33 = .ok (.ireturn, 1) := dk_172 (dk_at dksX0_way_1 9 rfl rfl)
theorem dX0_way_34 : decode cX0_way 34 = .ok (.aload_n 0, 1) := dk_42 (dk_at dksX0_way_1 10 rfl rfl)
theorem dX0_way_35 : decode cX0_way 35 = .ok (.iload 4, 2) := dk_21 4 (dk_at dksX0_way_1 11 rfl rfl)
theorem dX0_way_37 : decode cX0_way 37 = .ok (.invokevirtual 209, 3) := dk_182 0 209 (dk_at dksX0_way_1 13 rfl rfl)
theorem dX0_way_40 : decode cX0_way 40 = .ok (.aload_n 0, 1) := dk_42 (dk_at dksX0_way_1 16 rfl rfl)
theorem dX0_way_41 : decode cX0_way 41 = .ok (.iload_n 1, 1) := dk_27 (dk_at dksX0_way_1 17 rfl rfl)
theorem dX0_way_42 : decode cX0_way 42 = .ok (.iload_n 3, 1) := dk_29 (dk_at dksX0_way_1 18 rfl rfl)
theorem dX0_way_43 : decode cX0_way 43 = .ok (.iload 4, 2) := dk_21 4 (dk_at dksX0_way_1 19 rfl rfl)
theorem dX0_way_45 : decode cX0_way 45 = .ok (.invokevirtual 213, 3) := dk_182 0 213 (dk_at dksX0_way_1 21 rfl rfl)
theorem dX0_way_48 : decode cX0_way 48 = .ok (.aload_n 0, 1) := dk_42 (dk_at dksX0_way_2 0 rfl rfl)
theorem dX0_way_49 : decode cX0_way 49 = .ok (.getfield 40, 3) := dk_180 0 40 (dk_at dksX0_way_2 1 rfl rfl)
theorem dX0_way_52 : decode cX0_way 52 = .ok (.iload_n 2, 1) := dk_28 (dk_at dksX0_way_2 4 rfl rfl)
theorem dX0_way_53 : decode cX0_way 53 = .ok (.iaload, 1) := dk_46 (dk_at dksX0_way_2 5 rfl rfl)
theorem dX0_way_54 : decode cX0_way 54 = .ok (.sipush 2001, 3) := dk_17 7 209 (dk_at dksX0_way_2 6 rfl rfl)
theorem dX0_way_57 : decode cX0_way 57 = .ok (.if_icmp .ne 6, 3) := dk_160 0 6 (dk_at dksX0_way_2 9 rfl rfl)
theorem dX0_way_60 : decode cX0_way 60 = .ok (.bipush (-9), 2) := dk_16 247 (dk_at dksX0_way_2 12 rfl rfl)
theorem dX0_way_62 : decode cX0_way 62 = .ok (.ireturn, 1) := dk_172 (dk_at dksX0_way_2 14 rfl rfl)
theorem dX0_way_63 : decode cX0_way 63 = .ok (.iconst 0, 1) := dk_3 (dk_at dksX0_way_2 15 rfl rfl)
theorem dX0_way_64 : decode cX0_way 64 = .ok (.istore 6, 2) := dk_54 6 (dk_at dksX0_way_2 16 rfl rfl)
theorem dX0_way_66 : decode cX0_way 66 = .ok (.iload_n 2, 1) := dk_28 (dk_at dksX0_way_2 18 rfl rfl)
theorem dX0_way_67 : decode cX0_way 67 = .ok (.istore 7, 2) := dk_54 7 (dk_at dksX0_way_2 19 rfl rfl)
theorem dX0_way_69 : decode cX0_way 69 = .ok (.iload 7, 2) := dk_21 7 (dk_at dksX0_way_2 21 rfl rfl)
theorem dX0_way_71 : decode cX0_way 71 = .ok (.iload_n 1, 1) := dk_27 (dk_at dksX0_way_2 23 rfl rfl)
theorem dX0_way_72 : decode cX0_way 72 = .ok (.if_icmp .eq 52, 3) := dk_159 0 52 (dk_at dksX0_way_3 0 rfl rfl)
theorem dX0_way_75 : decode cX0_way 75 = .ok (.aload_n 0, 1) := dk_42 (dk_at dksX0_way_3 3 rfl rfl)
theorem dX0_way_76 : decode cX0_way 76 = .ok (.getfield 43, 3) := dk_180 0 43 (dk_at dksX0_way_3 4 rfl rfl)
theorem dX0_way_79 : decode cX0_way 79 = .ok (.iload 6, 2) := dk_21 6 (dk_at dksX0_way_3 7 rfl rfl)
theorem dX0_way_81 : decode cX0_way 81 = .ok (.aload_n 0, 1) := dk_42 (dk_at dksX0_way_3 9 rfl rfl)
theorem dX0_way_82 : decode cX0_way 82 = .ok (.iload 7, 2) := dk_21 7 (dk_at dksX0_way_3 10 rfl rfl)
theorem dX0_way_84 : decode cX0_way 84 = .ok (.iload 4, 2) := dk_21 4 (dk_at dksX0_way_3 12 rfl rfl)
theorem dX0_way_86 : decode cX0_way 86 = .ok (.invokevirtual 220, 3) := dk_182 0 220 (dk_at dksX0_way_3 14 rfl rfl)
theorem dX0_way_89 : decode cX0_way 89 = .ok (.iastore, 1) := dk_79 (dk_at dksX0_way_3 17 rfl rfl)
theorem dX0_way_90 : decode cX0_way 90 = .ok (.iinc 6 1, 3) := dk_132 6 1 (dk_at dksX0_way_3 18 rfl rfl)
theorem dX0_way_93 : decode cX0_way 93 = .ok (.aload_n 0, 1) := dk_42 (dk_at dksX0_way_3 21 rfl rfl)
theorem dX0_way_94 : decode cX0_way 94 = .ok (.getfield 28, 3) := dk_180 0 28 (dk_at dksX0_way_4 0 rfl rfl)
theorem dX0_way_97 : decode cX0_way 97 = .ok (.aload_n 0, 1) := dk_42 (dk_at dksX0_way_4 3 rfl rfl)
theorem dX0_way_98 : decode cX0_way 98 = .ok (.getfield 43, 3) := dk_180 0 43 (dk_at dksX0_way_4 4 rfl rfl)
theorem dX0_way_101 : decode cX0_way 101 = .ok (.iload 6, 2) := dk_21 6 (dk_at dksX0_way_4 7 rfl rfl)
theorem dX0_way_103 : decode cX0_way 103 = .ok (.iconst 1, 1) := dk_4 (dk_at dksX0_way_4 9 rfl rfl)
theorem dX0_way_104 : decode cX0_way 104 = .ok (.isub, 1) := dk_100 (dk_at dksX0_way_4 10 rfl rfl)
theorem dX0_way_105 : decode cX0_way 105 = .ok (.iaload, 1) := dk_46 (dk_at dksX0_way_4 11 rfl rfl)
theorem dX0_way_106 : decode cX0_way 106 = .ok (.invokeinterface 112 2, 5) := by decide +kernel
theorem dX0_way_111 : decode cX0_way 111 = .ok (.checkcast 147, 3) := dk_192 0 147 (dk_at dksX0_way_4 17 rfl rfl)
theorem dX0_way_114 : decode cX0_way 114 = .ok (.iload 7, 2) := dk_21 7 (dk_at dksX0_way_4 20 rfl rfl)
theorem dX0_way_116 : decode cX0_way 116 = .ok (.invokevirtual 201, 3) := dk_182 0 201 (dk_at dksX0_way_5 0 rfl rfl)
theorem dX0_way_119 : decode cX0_way 119 = .ok (.istore 7, 2) := dk_54 7 (dk_at dksX0_way_5 3 rfl rfl)
theorem dX0_way_121 : decode cX0_way 121 = .ok (.goto (-52), 3) := dk_167 255 204 (dk_at dksX0_way_5 5 rfl rfl)
theorem dX0_way_124 : decode cX0_way 124 = .ok (.iload 5, 2) := dk_21 5 (dk_at dksX0_way_5 8 rfl rfl)
theorem dX0_way_126 : decode cX0_way 126 = .ok (.ifCond .ge 8, 3) := dk_156 0 8 (dk_at dksX0_way_5 10 rfl rfl)
theorem dX0_way_129 : decode cX0_way 129 = .ok (.iload 6, 2) := dk_21 6 (dk_at dksX0_way_5 13 rfl rfl)
theorem dX0_way_131 : decode cX0_way 131 = .ok (.goto 27, 3) := dk_167 0 27 (dk_at dksX0_way_5 15 rfl rfl)
theorem dX0_way_134 : decode cX0_way 134 = .ok (.iload 5, 2) := dk_21 5 (dk_at dksX0_way_5 18 rfl rfl)
theorem dX0_way_136 : decode cX0_way 136 = .ok (.iload 6, 2) := dk_21 6 (dk_at dksX0_way_5 20 rfl rfl)
theorem dX0_way_138 : decode cX0_way 138 = .ok (.if_icmp .ge 18, 3) := dk_162 0 18 (dk_at dksX0_way_6 0 rfl rfl)
theorem dX0_way_141 : decode cX0_way 141 = .ok (.aload_n 0, 1) := dk_42 (dk_at dksX0_way_6 3 rfl rfl)
theorem dX0_way_142 : decode cX0_way 142 = .ok (.getfield 43, 3) := dk_180 0 43 (dk_at dksX0_way_6 4 rfl rfl)
theorem dX0_way_145 : decode cX0_way 145 = .ok (.iload 6, 2) := dk_21 6 (dk_at dksX0_way_6 7 rfl rfl)
theorem dX0_way_147 : decode cX0_way 147 = .ok (.iconst 1, 1) := dk_4 (dk_at dksX0_way_6 9 rfl rfl)
theorem dX0_way_148 : decode cX0_way 148 = .ok (.isub, 1) := dk_100 (dk_at dksX0_way_6 10 rfl rfl)
theorem dX0_way_149 : decode cX0_way 149 = .ok (.iload 5, 2) := dk_21 5 (dk_at dksX0_way_6 11 rfl rfl)
theorem dX0_way_151 : decode cX0_way 151 = .ok (.isub, 1) := dk_100 (dk_at dksX0_way_6 13 rfl rfl)
theorem dX0_way_152 : decode cX0_way 152 = .ok (.iaload, 1) := dk_46 (dk_at dksX0_way_6 14 rfl rfl)
theorem dX0_way_153 : decode cX0_way 153 = .ok (.goto 5, 3) := dk_167 0 5 (dk_at dksX0_way_6 15 rfl rfl)
theorem dX0_way_156 : decode cX0_way 156 = .ok (.bipush (-9), 2) := dk_16 247 (dk_at dksX0_way_6 18 rfl rfl)
theorem dX0_way_158 : decode cX0_way 158 = .ok (.ireturn, 1) := dk_172 (dk_at dksX0_way_6 20 rfl rfl)
abbrev cX0_cameBy : ByteArray := prog_1_method_32_code
def yX0_cameBy : MethodName := ⟨RX0, "cameBy", "(IZ)I"⟩
def dkwX0_cameBy_6 : List UInt8 := [29, 62, 132, 4, 1, 167, 255, 114, 29, 172]
abbrev dktX0_cameBy_6 : List UInt8 := dkwX0_cameBy_6 ++ []
def dkwX0_cameBy_5 : List UInt8 := [180, 0, 28, 29, 185, 0, 112, 2, 0, 192, 0, 147, 28, 182, 0, 184, 162, 0, 8, 21, 4, 167, 0, 4]
abbrev dktX0_cameBy_5 : List UInt8 := dkwX0_cameBy_5 ++ dktX0_cameBy_6
def dkwX0_cameBy_4 : List UInt8 := [4, 167, 0, 4, 3, 54, 7, 21, 7, 153, 0, 38, 29, 155, 0, 29, 25, 5, 28, 182, 0, 184, 42]
abbrev dktX0_cameBy_4 : List UInt8 := dkwX0_cameBy_4 ++ dktX0_cameBy_5
def dkwX0_cameBy_3 : List UInt8 := [182, 0, 201, 46, 21, 6, 163, 0, 22, 42, 180, 0, 37, 21, 4, 50, 21, 6, 46, 21, 6, 160, 0, 7]
abbrev dktX0_cameBy_3 : List UInt8 := dkwX0_cameBy_3 ++ dktX0_cameBy_4
def dkwX0_cameBy_2 : List UInt8 := [100, 54, 6, 25, 5, 27, 182, 0, 198, 153, 0, 43, 21, 6, 155, 0, 38, 42, 180, 0, 40, 25, 5, 27]
abbrev dktX0_cameBy_2 : List UInt8 := dkwX0_cameBy_2 ++ dktX0_cameBy_3
def dkwX0_cameBy_1 : List UInt8 := [21, 4, 185, 0, 112, 2, 0, 192, 0, 147, 58, 5, 42, 180, 0, 40, 27, 46, 25, 5, 28, 182, 0, 184]
abbrev dktX0_cameBy_1 : List UInt8 := dkwX0_cameBy_1 ++ dktX0_cameBy_2
def dkwX0_cameBy_0 : List UInt8 := [16, 247, 62, 3, 54, 4, 21, 4, 42, 180, 0, 28, 185, 0, 65, 1, 0, 162, 0, 134, 42, 180, 0, 28]
abbrev dktX0_cameBy_0 : List UInt8 := dkwX0_cameBy_0 ++ dktX0_cameBy_1
theorem dksX0_cameBy_0 : cX0_cameBy.data.toList.drop 0 = dktX0_cameBy_0 := by decide +kernel
theorem dksX0_cameBy_1 : cX0_cameBy.data.toList.drop 24 = dktX0_cameBy_1 := dk_seg dksX0_cameBy_0 24 rfl rfl
theorem dksX0_cameBy_2 : cX0_cameBy.data.toList.drop 48 = dktX0_cameBy_2 := dk_seg dksX0_cameBy_1 24 rfl rfl
theorem dksX0_cameBy_3 : cX0_cameBy.data.toList.drop 72 = dktX0_cameBy_3 := dk_seg dksX0_cameBy_2 24 rfl rfl
theorem dksX0_cameBy_4 : cX0_cameBy.data.toList.drop 96 = dktX0_cameBy_4 := dk_seg dksX0_cameBy_3 24 rfl rfl
theorem dksX0_cameBy_5 : cX0_cameBy.data.toList.drop 119 = dktX0_cameBy_5 := dk_seg dksX0_cameBy_4 23 rfl rfl
theorem dksX0_cameBy_6 : cX0_cameBy.data.toList.drop 143 = dktX0_cameBy_6 := dk_seg dksX0_cameBy_5 24 rfl rfl
theorem dX0_cameBy_0 : decode cX0_cameBy 0 = .ok (.bipush (-9), 2) := dk_16 247 (dk_at dksX0_cameBy_0 0 rfl rfl)
theorem dX0_cameBy_2 : decode cX0_cameBy 2 = .ok (.istore_n 3, 1) := dk_62 (dk_at dksX0_cameBy_0 2 rfl rfl)
theorem dX0_cameBy_3 : decode cX0_cameBy 3 = .ok (.iconst 0, 1) := dk_3 (dk_at dksX0_cameBy_0 3 rfl rfl)
theorem dX0_cameBy_4 : decode cX0_cameBy 4 = .ok (.istore 4, 2) := dk_54 4 (dk_at dksX0_cameBy_0 4 rfl rfl)
theorem dX0_cameBy_6 : decode cX0_cameBy 6 = .ok (.iload 4, 2) := dk_21 4 (dk_at dksX0_cameBy_0 6 rfl rfl)
theorem dX0_cameBy_8 : decode cX0_cameBy 8 = .ok (.aload_n 0, 1) := dk_42 (dk_at dksX0_cameBy_0 8 rfl rfl)
theorem dX0_cameBy_9 : decode cX0_cameBy 9 = .ok (.getfield 28, 3) := dk_180 0 28 (dk_at dksX0_cameBy_0 9 rfl rfl)
theorem dX0_cameBy_12 : decode cX0_cameBy 12 = .ok (.invokeinterface 65 1, 5) := by decide +kernel
theorem dX0_cameBy_17 : decode cX0_cameBy 17 = .ok (.if_icmp .ge 134, 3) := dk_162 0 134 (dk_at dksX0_cameBy_0 17 rfl rfl)
theorem dX0_cameBy_20 : decode cX0_cameBy 20 = .ok (.aload_n 0, 1) := dk_42 (dk_at dksX0_cameBy_0 20 rfl rfl)
theorem dX0_cameBy_21 : decode cX0_cameBy 21 = .ok (.getfield 28, 3) := dk_180 0 28 (dk_at dksX0_cameBy_0 21 rfl rfl)
theorem dX0_cameBy_24 : decode cX0_cameBy 24 = .ok (.iload 4, 2) := dk_21 4 (dk_at dksX0_cameBy_1 0 rfl rfl)
theorem dX0_cameBy_26 : decode cX0_cameBy 26 = .ok (.invokeinterface 112 2, 5) := by decide +kernel
theorem dX0_cameBy_31 : decode cX0_cameBy 31 = .ok (.checkcast 147, 3) := dk_192 0 147 (dk_at dksX0_cameBy_1 7 rfl rfl)
theorem dX0_cameBy_34 : decode cX0_cameBy 34 = .ok (.astore 5, 2) := dk_58 5 (dk_at dksX0_cameBy_1 10 rfl rfl)
theorem dX0_cameBy_36 : decode cX0_cameBy 36 = .ok (.aload_n 0, 1) := dk_42 (dk_at dksX0_cameBy_1 12 rfl rfl)
theorem dX0_cameBy_37 : decode cX0_cameBy 37 = .ok (.getfield 40, 3) := dk_180 0 40 (dk_at dksX0_cameBy_1 13 rfl rfl)
theorem dX0_cameBy_40 : decode cX0_cameBy 40 = .ok (.iload_n 1, 1) := dk_27 (dk_at dksX0_cameBy_1 16 rfl rfl)
theorem dX0_cameBy_41 : decode cX0_cameBy 41 = .ok (.iaload, 1) := dk_46 (dk_at dksX0_cameBy_1 17 rfl rfl)
theorem dX0_cameBy_42 : decode cX0_cameBy 42 = .ok (.aload 5, 2) := dk_25 5 (dk_at dksX0_cameBy_1 18 rfl rfl)
theorem dX0_cameBy_44 : decode cX0_cameBy 44 = .ok (.iload_n 2, 1) := dk_28 (dk_at dksX0_cameBy_1 20 rfl rfl)
theorem dX0_cameBy_45 : decode cX0_cameBy 45 = .ok (.invokevirtual 184, 3) := dk_182 0 184 (dk_at dksX0_cameBy_1 21 rfl rfl)
theorem dX0_cameBy_48 : decode cX0_cameBy 48 = .ok (.isub, 1) := dk_100 (dk_at dksX0_cameBy_2 0 rfl rfl)
theorem dX0_cameBy_49 : decode cX0_cameBy 49 = .ok (.istore 6, 2) := dk_54 6 (dk_at dksX0_cameBy_2 1 rfl rfl)
theorem dX0_cameBy_51 : decode cX0_cameBy 51 = .ok (.aload 5, 2) := dk_25 5 (dk_at dksX0_cameBy_2 3 rfl rfl)
theorem dX0_cameBy_53 : decode cX0_cameBy 53 = .ok (.iload_n 1, 1) := dk_27 (dk_at dksX0_cameBy_2 5 rfl rfl)
theorem dX0_cameBy_54 : decode cX0_cameBy 54 = .ok (.invokevirtual 198, 3) := dk_182 0 198 (dk_at dksX0_cameBy_2 6 rfl rfl)
theorem dX0_cameBy_57 : decode cX0_cameBy 57 = .ok (.ifCond .eq 43, 3) := dk_153 0 43 (dk_at dksX0_cameBy_2 9 rfl rfl)
theorem dX0_cameBy_60 : decode cX0_cameBy 60 = .ok (.iload 6, 2) := dk_21 6 (dk_at dksX0_cameBy_2 12 rfl rfl)
theorem dX0_cameBy_62 : decode cX0_cameBy 62 = .ok (.ifCond .lt 38, 3) := dk_155 0 38 (dk_at dksX0_cameBy_2 14 rfl rfl)
theorem dX0_cameBy_65 : decode cX0_cameBy 65 = .ok (.aload_n 0, 1) := dk_42 (dk_at dksX0_cameBy_2 17 rfl rfl)
theorem dX0_cameBy_66 : decode cX0_cameBy 66 = .ok (.getfield 40, 3) := dk_180 0 40 (dk_at dksX0_cameBy_2 18 rfl rfl)
theorem dX0_cameBy_69 : decode cX0_cameBy 69 = .ok (.aload 5, 2) := dk_25 5 (dk_at dksX0_cameBy_2 21 rfl rfl)
theorem dX0_cameBy_71 : decode cX0_cameBy 71 = .ok (.iload_n 1, 1) := dk_27 (dk_at dksX0_cameBy_2 23 rfl rfl)
theorem dX0_cameBy_72 : decode cX0_cameBy 72 = .ok (.invokevirtual 201, 3) := dk_182 0 201 (dk_at dksX0_cameBy_3 0 rfl rfl)
theorem dX0_cameBy_75 : decode cX0_cameBy 75 = .ok (.iaload, 1) := dk_46 (dk_at dksX0_cameBy_3 3 rfl rfl)
theorem dX0_cameBy_76 : decode cX0_cameBy 76 = .ok (.iload 6, 2) := dk_21 6 (dk_at dksX0_cameBy_3 4 rfl rfl)
theorem dX0_cameBy_78 : decode cX0_cameBy 78 = .ok (.if_icmp .gt 22, 3) := dk_163 0 22 (dk_at dksX0_cameBy_3 6 rfl rfl)
theorem dX0_cameBy_81 : decode cX0_cameBy 81 = .ok (.aload_n 0, 1) := dk_42 (dk_at dksX0_cameBy_3 9 rfl rfl)
theorem dX0_cameBy_82 : decode cX0_cameBy 82 = .ok (.getfield 37, 3) := dk_180 0 37 (dk_at dksX0_cameBy_3 10 rfl rfl)
theorem dX0_cameBy_85 : decode cX0_cameBy 85 = .ok (.iload 4, 2) := dk_21 4 (dk_at dksX0_cameBy_3 13 rfl rfl)
theorem dX0_cameBy_87 : decode cX0_cameBy 87 = .ok (.aaload, 1) := dk_50 (dk_at dksX0_cameBy_3 15 rfl rfl)
theorem dX0_cameBy_88 : decode cX0_cameBy 88 = .ok (.iload 6, 2) := dk_21 6 (dk_at dksX0_cameBy_3 16 rfl rfl)
theorem dX0_cameBy_90 : decode cX0_cameBy 90 = .ok (.iaload, 1) := dk_46 (dk_at dksX0_cameBy_3 18 rfl rfl)
theorem dX0_cameBy_91 : decode cX0_cameBy 91 = .ok (.iload 6, 2) := dk_21 6 (dk_at dksX0_cameBy_3 19 rfl rfl)
theorem dX0_cameBy_93 : decode cX0_cameBy 93 = .ok (.if_icmp .ne 7, 3) := dk_160 0 7 (dk_at dksX0_cameBy_3 21 rfl rfl)
theorem dX0_cameBy_96 : decode cX0_cameBy 96 = .ok (.iconst 1, 1) := dk_4 (dk_at dksX0_cameBy_4 0 rfl rfl)
theorem dX0_cameBy_97 : decode cX0_cameBy 97 = .ok (.goto 4, 3) := dk_167 0 4 (dk_at dksX0_cameBy_4 1 rfl rfl)
theorem dX0_cameBy_100 : decode cX0_cameBy 100 = .ok (.iconst 0, 1) := dk_3 (dk_at dksX0_cameBy_4 4 rfl rfl)
theorem dX0_cameBy_101 : decode cX0_cameBy 101 = .ok (.istore 7, 2) := dk_54 7 (dk_at dksX0_cameBy_4 5 rfl rfl)
theorem dX0_cameBy_103 : decode cX0_cameBy 103 = .ok (.iload 7, 2) := dk_21 7 (dk_at dksX0_cameBy_4 7 rfl rfl)
theorem dX0_cameBy_105 : decode cX0_cameBy 105 = .ok (.ifCond .eq 38, 3) := dk_153 0 38 (dk_at dksX0_cameBy_4 9 rfl rfl)
theorem dX0_cameBy_108 : decode cX0_cameBy 108 = .ok (.iload_n 3, 1) := dk_29 (dk_at dksX0_cameBy_4 12 rfl rfl)
theorem dX0_cameBy_109 : decode cX0_cameBy 109 = .ok (.ifCond .lt 29, 3) := dk_155 0 29 (dk_at dksX0_cameBy_4 13 rfl rfl)
theorem dX0_cameBy_112 : decode cX0_cameBy 112 = .ok (.aload 5, 2) := dk_25 5 (dk_at dksX0_cameBy_4 16 rfl rfl)
theorem dX0_cameBy_114 : decode cX0_cameBy 114 = .ok (.iload_n 2, 1) := dk_28 (dk_at dksX0_cameBy_4 18 rfl rfl)
theorem dX0_cameBy_115 : decode cX0_cameBy 115 = .ok (.invokevirtual 184, 3) := dk_182 0 184 (dk_at dksX0_cameBy_4 19 rfl rfl)
theorem dX0_cameBy_118 : decode cX0_cameBy 118 = .ok (.aload_n 0, 1) := dk_42 (dk_at dksX0_cameBy_4 22 rfl rfl)
theorem dX0_cameBy_119 : decode cX0_cameBy 119 = .ok (.getfield 28, 3) := dk_180 0 28 (dk_at dksX0_cameBy_5 0 rfl rfl)
theorem dX0_cameBy_122 : decode cX0_cameBy 122 = .ok (.iload_n 3, 1) := dk_29 (dk_at dksX0_cameBy_5 3 rfl rfl)
theorem dX0_cameBy_123 : decode cX0_cameBy 123 = .ok (.invokeinterface 112 2, 5) := by decide +kernel
theorem dX0_cameBy_128 : decode cX0_cameBy 128 = .ok (.checkcast 147, 3) := dk_192 0 147 (dk_at dksX0_cameBy_5 9 rfl rfl)
theorem dX0_cameBy_131 : decode cX0_cameBy 131 = .ok (.iload_n 2, 1) := dk_28 (dk_at dksX0_cameBy_5 12 rfl rfl)
theorem dX0_cameBy_132 : decode cX0_cameBy 132 = .ok (.invokevirtual 184, 3) := dk_182 0 184 (dk_at dksX0_cameBy_5 13 rfl rfl)
theorem dX0_cameBy_135 : decode cX0_cameBy 135 = .ok (.if_icmp .ge 8, 3) := dk_162 0 8 (dk_at dksX0_cameBy_5 16 rfl rfl)
theorem dX0_cameBy_138 : decode cX0_cameBy 138 = .ok (.iload 4, 2) := dk_21 4 (dk_at dksX0_cameBy_5 19 rfl rfl)
theorem dX0_cameBy_140 : decode cX0_cameBy 140 = .ok (.goto 4, 3) := dk_167 0 4 (dk_at dksX0_cameBy_5 21 rfl rfl)
theorem dX0_cameBy_143 : decode cX0_cameBy 143 = .ok (.iload_n 3, 1) := dk_29 (dk_at dksX0_cameBy_6 0 rfl rfl)
theorem dX0_cameBy_144 : decode cX0_cameBy 144 = .ok (.istore_n 3, 1) := dk_62 (dk_at dksX0_cameBy_6 1 rfl rfl)
theorem dX0_cameBy_145 : decode cX0_cameBy 145 = .ok (.iinc 4 1, 3) := dk_132 4 1 (dk_at dksX0_cameBy_6 2 rfl rfl)
theorem dX0_cameBy_148 : decode cX0_cameBy 148 = .ok (.goto (-142), 3) := dk_167 255 114 (dk_at dksX0_cameBy_6 5 rfl rfl)
theorem dX0_cameBy_151 : decode cX0_cameBy 151 = .ok (.iload_n 3, 1) := dk_29 (dk_at dksX0_cameBy_6 8 rfl rfl)
theorem dX0_cameBy_152 : decode cX0_cameBy 152 = .ok (.ireturn, 1) := dk_172 (dk_at dksX0_cameBy_6 9 rfl rfl)
abbrev cX0_latest : ByteArray := prog_1_method_34_code
def yX0_latest : MethodName := ⟨RX0, "latest", "(IIIZ)I"⟩
def dkwX0_latest_4 : List UInt8 := [167, 255, 208, 21, 5, 156, 0, 8, 16, 247, 167, 0, 5, 21, 5, 172]
abbrev dktX0_latest_4 : List UInt8 := dkwX0_latest_4 ++ []
def dkwX0_latest_3 : List UInt8 := [182, 0, 213, 42, 180, 0, 40, 28, 46, 29, 163, 0, 10, 21, 7, 54, 5, 167, 0, 7, 21, 7, 54, 6]
abbrev dktX0_latest_3 : List UInt8 := dkwX0_latest_3 ++ dktX0_latest_4
def dkwX0_latest_2 : List UInt8 := [21, 6, 21, 5, 100, 4, 164, 0, 45, 21, 5, 21, 6, 96, 5, 108, 54, 7, 42, 27, 21, 7, 21, 4]
abbrev dktX0_latest_2 : List UInt8 := dkwX0_latest_2 ++ dktX0_latest_3
def dkwX0_latest_1 : List UInt8 := [184, 0, 11, 154, 0, 6, 16, 254, 172, 42, 21, 4, 182, 0, 209, 2, 54, 5, 17, 7, 208, 54, 6]
abbrev dktX0_latest_1 : List UInt8 := dkwX0_latest_1 ++ dktX0_latest_2
def dkwX0_latest_0 : List UInt8 := [42, 27, 182, 0, 142, 154, 0, 11, 42, 28, 182, 0, 142, 153, 0, 5, 2, 172, 29, 133, 9, 20, 0, 177]
abbrev dktX0_latest_0 : List UInt8 := dkwX0_latest_0 ++ dktX0_latest_1
theorem dksX0_latest_0 : cX0_latest.data.toList.drop 0 = dktX0_latest_0 := by decide +kernel
theorem dksX0_latest_1 : cX0_latest.data.toList.drop 24 = dktX0_latest_1 := dk_seg dksX0_latest_0 24 rfl rfl
theorem dksX0_latest_2 : cX0_latest.data.toList.drop 47 = dktX0_latest_2 := dk_seg dksX0_latest_1 23 rfl rfl
theorem dksX0_latest_3 : cX0_latest.data.toList.drop 71 = dktX0_latest_3 := dk_seg dksX0_latest_2 24 rfl rfl
theorem dksX0_latest_4 : cX0_latest.data.toList.drop 95 = dktX0_latest_4 := dk_seg dksX0_latest_3 24 rfl rfl
theorem dX0_latest_0 : decode cX0_latest 0 = .ok (.aload_n 0, 1) := dk_42 (dk_at dksX0_latest_0 0 rfl rfl)
theorem dX0_latest_1 : decode cX0_latest 1 = .ok (.iload_n 1, 1) := dk_27 (dk_at dksX0_latest_0 1 rfl rfl)
theorem dX0_latest_2 : decode cX0_latest 2 = .ok (.invokevirtual 142, 3) := dk_182 0 142 (dk_at dksX0_latest_0 2 rfl rfl)
theorem dX0_latest_5 : decode cX0_latest 5 = .ok (.ifCond .ne 11, 3) := dk_154 0 11 (dk_at dksX0_latest_0 5 rfl rfl)
theorem dX0_latest_8 : decode cX0_latest 8 = .ok (.aload_n 0, 1) := dk_42 (dk_at dksX0_latest_0 8 rfl rfl)
theorem dX0_latest_9 : decode cX0_latest 9 = .ok (.iload_n 2, 1) := dk_28 (dk_at dksX0_latest_0 9 rfl rfl)
theorem dX0_latest_10 : decode cX0_latest 10 = .ok (.invokevirtual 142, 3) := dk_182 0 142 (dk_at dksX0_latest_0 10 rfl rfl)
theorem dX0_latest_13 : decode cX0_latest 13 = .ok (.ifCond .eq 5, 3) := dk_153 0 5 (dk_at dksX0_latest_0 13 rfl rfl)
theorem dX0_latest_16 : decode cX0_latest 16 = .ok (.iconst (-1), 1) := dk_2 (dk_at dksX0_latest_0 16 rfl rfl)
theorem dX0_latest_17 : decode cX0_latest 17 = .ok (.ireturn, 1) := dk_172 (dk_at dksX0_latest_0 17 rfl rfl)
theorem dX0_latest_18 : decode cX0_latest 18 = .ok (.iload_n 3, 1) := dk_29 (dk_at dksX0_latest_0 18 rfl rfl)
theorem dX0_latest_19 : decode cX0_latest 19 = .ok (.i2l, 1) := dk_133 (dk_at dksX0_latest_0 19 rfl rfl)
theorem dX0_latest_20 : decode cX0_latest 20 = .ok (.lconst 0, 1) := dk_9 (dk_at dksX0_latest_0 20 rfl rfl)
theorem dX0_latest_21 : decode cX0_latest 21 = .ok (.ldc2_w 177, 3) := dk_20 0 177 (dk_at dksX0_latest_0 21 rfl rfl)
theorem dX0_latest_24 : decode cX0_latest 24 = .ok (.invokestatic 11, 3) := dk_184 0 11 (dk_at dksX0_latest_1 0 rfl rfl)
theorem dX0_latest_27 : decode cX0_latest 27 = .ok (.ifCond .ne 6, 3) := dk_154 0 6 (dk_at dksX0_latest_1 3 rfl rfl)
theorem dX0_latest_30 : decode cX0_latest 30 = .ok (.bipush (-2), 2) := dk_16 254 (dk_at dksX0_latest_1 6 rfl rfl)
theorem dX0_latest_32 : decode cX0_latest 32 = .ok (.ireturn, 1) := dk_172 (dk_at dksX0_latest_1 8 rfl rfl)
theorem dX0_latest_33 : decode cX0_latest 33 = .ok (.aload_n 0, 1) := dk_42 (dk_at dksX0_latest_1 9 rfl rfl)
theorem dX0_latest_34 : decode cX0_latest 34 = .ok (.iload 4, 2) := dk_21 4 (dk_at dksX0_latest_1 10 rfl rfl)
theorem dX0_latest_36 : decode cX0_latest 36 = .ok (.invokevirtual 209, 3) := dk_182 0 209 (dk_at dksX0_latest_1 12 rfl rfl)
theorem dX0_latest_39 : decode cX0_latest 39 = .ok (.iconst (-1), 1) := dk_2 (dk_at dksX0_latest_1 15 rfl rfl)
theorem dX0_latest_40 : decode cX0_latest 40 = .ok (.istore 5, 2) := dk_54 5 (dk_at dksX0_latest_1 16 rfl rfl)
theorem dX0_latest_42 : decode cX0_latest 42 = .ok (.sipush 2000, 3) := dk_17 7 208 (dk_at dksX0_latest_1 18 rfl rfl)
theorem dX0_latest_45 : decode cX0_latest 45 = .ok (.istore 6, 2) := dk_54 6 (dk_at dksX0_latest_1 21 rfl rfl)
theorem dX0_latest_47 : decode cX0_latest 47 = .ok (.iload 6, 2) := dk_21 6 (dk_at dksX0_latest_2 0 rfl rfl)
theorem dX0_latest_49 : decode cX0_latest 49 = .ok (.iload 5, 2) := dk_21 5 (dk_at dksX0_latest_2 2 rfl rfl)
theorem dX0_latest_51 : decode cX0_latest 51 = .ok (.isub, 1) := dk_100 (dk_at dksX0_latest_2 4 rfl rfl)
theorem dX0_latest_52 : decode cX0_latest 52 = .ok (.iconst 1, 1) := dk_4 (dk_at dksX0_latest_2 5 rfl rfl)
theorem dX0_latest_53 : decode cX0_latest 53 = .ok (.if_icmp .le 45, 3) := dk_164 0 45 (dk_at dksX0_latest_2 6 rfl rfl)
theorem dX0_latest_56 : decode cX0_latest 56 = .ok (.iload 5, 2) := dk_21 5 (dk_at dksX0_latest_2 9 rfl rfl)
theorem dX0_latest_58 : decode cX0_latest 58 = .ok (.iload 6, 2) := dk_21 6 (dk_at dksX0_latest_2 11 rfl rfl)
theorem dX0_latest_60 : decode cX0_latest 60 = .ok (.iadd, 1) := dk_96 (dk_at dksX0_latest_2 13 rfl rfl)
theorem dX0_latest_61 : decode cX0_latest 61 = .ok (.iconst 2, 1) := dk_5 (dk_at dksX0_latest_2 14 rfl rfl)
theorem dX0_latest_62 : decode cX0_latest 62 = .ok (.idiv, 1) := dk_108 (dk_at dksX0_latest_2 15 rfl rfl)
theorem dX0_latest_63 : decode cX0_latest 63 = .ok (.istore 7, 2) := dk_54 7 (dk_at dksX0_latest_2 16 rfl rfl)
theorem dX0_latest_65 : decode cX0_latest 65 = .ok (.aload_n 0, 1) := dk_42 (dk_at dksX0_latest_2 18 rfl rfl)
theorem dX0_latest_66 : decode cX0_latest 66 = .ok (.iload_n 1, 1) := dk_27 (dk_at dksX0_latest_2 19 rfl rfl)
theorem dX0_latest_67 : decode cX0_latest 67 = .ok (.iload 7, 2) := dk_21 7 (dk_at dksX0_latest_2 20 rfl rfl)
theorem dX0_latest_69 : decode cX0_latest 69 = .ok (.iload 4, 2) := dk_21 4 (dk_at dksX0_latest_2 22 rfl rfl)
theorem dX0_latest_71 : decode cX0_latest 71 = .ok (.invokevirtual 213, 3) := dk_182 0 213 (dk_at dksX0_latest_3 0 rfl rfl)
theorem dX0_latest_74 : decode cX0_latest 74 = .ok (.aload_n 0, 1) := dk_42 (dk_at dksX0_latest_3 3 rfl rfl)
theorem dX0_latest_75 : decode cX0_latest 75 = .ok (.getfield 40, 3) := dk_180 0 40 (dk_at dksX0_latest_3 4 rfl rfl)
theorem dX0_latest_78 : decode cX0_latest 78 = .ok (.iload_n 2, 1) := dk_28 (dk_at dksX0_latest_3 7 rfl rfl)
theorem dX0_latest_79 : decode cX0_latest 79 = .ok (.iaload, 1) := dk_46 (dk_at dksX0_latest_3 8 rfl rfl)
theorem dX0_latest_80 : decode cX0_latest 80 = .ok (.iload_n 3, 1) := dk_29 (dk_at dksX0_latest_3 9 rfl rfl)
theorem dX0_latest_81 : decode cX0_latest 81 = .ok (.if_icmp .gt 10, 3) := dk_163 0 10 (dk_at dksX0_latest_3 10 rfl rfl)
theorem dX0_latest_84 : decode cX0_latest 84 = .ok (.iload 7, 2) := dk_21 7 (dk_at dksX0_latest_3 13 rfl rfl)
theorem dX0_latest_86 : decode cX0_latest 86 = .ok (.istore 5, 2) := dk_54 5 (dk_at dksX0_latest_3 15 rfl rfl)
theorem dX0_latest_88 : decode cX0_latest 88 = .ok (.goto 7, 3) := dk_167 0 7 (dk_at dksX0_latest_3 17 rfl rfl)
theorem dX0_latest_91 : decode cX0_latest 91 = .ok (.iload 7, 2) := dk_21 7 (dk_at dksX0_latest_3 20 rfl rfl)
theorem dX0_latest_93 : decode cX0_latest 93 = .ok (.istore 6, 2) := dk_54 6 (dk_at dksX0_latest_3 22 rfl rfl)
theorem dX0_latest_95 : decode cX0_latest 95 = .ok (.goto (-48), 3) := dk_167 255 208 (dk_at dksX0_latest_4 0 rfl rfl)
theorem dX0_latest_98 : decode cX0_latest 98 = .ok (.iload 5, 2) := dk_21 5 (dk_at dksX0_latest_4 3 rfl rfl)
theorem dX0_latest_100 : decode cX0_latest 100 = .ok (.ifCond .ge 8, 3) := dk_156 0 8 (dk_at dksX0_latest_4 5 rfl rfl)
theorem dX0_latest_103 : decode cX0_latest 103 = .ok (.bipush (-9), 2) := dk_16 247 (dk_at dksX0_latest_4 8 rfl rfl)
theorem dX0_latest_105 : decode cX0_latest 105 = .ok (.goto 5, 3) := dk_167 0 5 (dk_at dksX0_latest_4 10 rfl rfl)
theorem dX0_latest_108 : decode cX0_latest 108 = .ok (.iload 5, 2) := dk_21 5 (dk_at dksX0_latest_4 13 rfl rfl)
theorem dX0_latest_110 : decode cX0_latest 110 = .ok (.ireturn, 1) := dk_172 (dk_at dksX0_latest_4 15 rfl rfl)
abbrev cX0_round : ByteArray := prog_1_method_36_code
def yX0_round : MethodName := ⟨RX0, "round", "(III)I"⟩
def dkwX0_round_3 : List UInt8 := [16, 247, 167, 0, 20, 29, 156, 0, 10, 42, 180, 0, 224, 167, 0, 9, 42, 180, 0, 49, 29, 46, 172]
abbrev dktX0_round_3 : List UInt8 := dkwX0_round_3 ++ []
def dkwX0_round_2 : List UInt8 := [181, 0, 224, 42, 3, 27, 28, 4, 27, 120, 182, 0, 233, 42, 180, 0, 224, 17, 7, 209, 160, 0, 8]
abbrev dktX0_round_2 : List UInt8 := dkwX0_round_2 ++ dktX0_round_3
def dkwX0_round_1 : List UInt8 := [154, 0, 5, 2, 172, 28, 184, 0, 125, 154, 0, 6, 16, 254, 172, 42, 3, 182, 0, 209, 42, 17, 7, 209]
abbrev dktX0_round_1 : List UInt8 := dkwX0_round_1 ++ dktX0_round_2
def dkwX0_round_0 : List UInt8 := [42, 27, 182, 0, 142, 154, 0, 21, 29, 133, 20, 0, 237, 42, 180, 0, 61, 5, 100, 133, 184, 0, 11]
abbrev dktX0_round_0 : List UInt8 := dkwX0_round_0 ++ dktX0_round_1
theorem dksX0_round_0 : cX0_round.data.toList.drop 0 = dktX0_round_0 := by decide +kernel
theorem dksX0_round_1 : cX0_round.data.toList.drop 23 = dktX0_round_1 := dk_seg dksX0_round_0 23 rfl rfl
theorem dksX0_round_2 : cX0_round.data.toList.drop 47 = dktX0_round_2 := dk_seg dksX0_round_1 24 rfl rfl
theorem dksX0_round_3 : cX0_round.data.toList.drop 70 = dktX0_round_3 := dk_seg dksX0_round_2 23 rfl rfl
theorem dX0_round_0 : decode cX0_round 0 = .ok (.aload_n 0, 1) := dk_42 (dk_at dksX0_round_0 0 rfl rfl)
theorem dX0_round_1 : decode cX0_round 1 = .ok (.iload_n 1, 1) := dk_27 (dk_at dksX0_round_0 1 rfl rfl)
theorem dX0_round_2 : decode cX0_round 2 = .ok (.invokevirtual 142, 3) := dk_182 0 142 (dk_at dksX0_round_0 2 rfl rfl)
theorem dX0_round_5 : decode cX0_round 5 = .ok (.ifCond .ne 21, 3) := dk_154 0 21 (dk_at dksX0_round_0 5 rfl rfl)
theorem dX0_round_8 : decode cX0_round 8 = .ok (.iload_n 3, 1) := dk_29 (dk_at dksX0_round_0 8 rfl rfl)
theorem dX0_round_9 : decode cX0_round 9 = .ok (.i2l, 1) := dk_133 (dk_at dksX0_round_0 9 rfl rfl)
theorem dX0_round_10 : decode cX0_round 10 = .ok (.ldc2_w 237, 3) := dk_20 0 237 (dk_at dksX0_round_0 10 rfl rfl)
theorem dX0_round_13 : decode cX0_round 13 = .ok (.aload_n 0, 1) := dk_42 (dk_at dksX0_round_0 13 rfl rfl)
theorem dX0_round_14 : decode cX0_round 14 = .ok (.getfield 61, 3) := dk_180 0 61 (dk_at dksX0_round_0 14 rfl rfl)
theorem dX0_round_17 : decode cX0_round 17 = .ok (.iconst 2, 1) := dk_5 (dk_at dksX0_round_0 17 rfl rfl)
theorem dX0_round_18 : decode cX0_round 18 = .ok (.isub, 1) := dk_100 (dk_at dksX0_round_0 18 rfl rfl)
theorem dX0_round_19 : decode cX0_round 19 = .ok (.i2l, 1) := dk_133 (dk_at dksX0_round_0 19 rfl rfl)
theorem dX0_round_20 : decode cX0_round 20 = .ok (.invokestatic 11, 3) := dk_184 0 11 (dk_at dksX0_round_0 20 rfl rfl)
theorem dX0_round_23 : decode cX0_round 23 = .ok (.ifCond .ne 5, 3) := dk_154 0 5 (dk_at dksX0_round_1 0 rfl rfl)
theorem dX0_round_26 : decode cX0_round 26 = .ok (.iconst (-1), 1) := dk_2 (dk_at dksX0_round_1 3 rfl rfl)
theorem dX0_round_27 : decode cX0_round 27 = .ok (.ireturn, 1) := dk_172 (dk_at dksX0_round_1 4 rfl rfl)
theorem dX0_round_28 : decode cX0_round 28 = .ok (.iload_n 2, 1) := dk_28 (dk_at dksX0_round_1 5 rfl rfl)
theorem dX0_round_29 : decode cX0_round 29 = .ok (.invokestatic 125, 3) := dk_184 0 125 (dk_at dksX0_round_1 6 rfl rfl)
theorem dX0_round_32 : decode cX0_round 32 = .ok (.ifCond .ne 6, 3) := dk_154 0 6 (dk_at dksX0_round_1 9 rfl rfl)
theorem dX0_round_35 : decode cX0_round 35 = .ok (.bipush (-2), 2) := dk_16 254 (dk_at dksX0_round_1 12 rfl rfl)
theorem dX0_round_37 : decode cX0_round 37 = .ok (.ireturn, 1) := dk_172 (dk_at dksX0_round_1 14 rfl rfl)
theorem dX0_round_38 : decode cX0_round 38 = .ok (.aload_n 0, 1) := dk_42 (dk_at dksX0_round_1 15 rfl rfl)
theorem dX0_round_39 : decode cX0_round 39 = .ok (.iconst 0, 1) := dk_3 (dk_at dksX0_round_1 16 rfl rfl)
theorem dX0_round_40 : decode cX0_round 40 = .ok (.invokevirtual 209, 3) := dk_182 0 209 (dk_at dksX0_round_1 17 rfl rfl)
theorem dX0_round_43 : decode cX0_round 43 = .ok (.aload_n 0, 1) := dk_42 (dk_at dksX0_round_1 20 rfl rfl)
theorem dX0_round_44 : decode cX0_round 44 = .ok (.sipush 2001, 3) := dk_17 7 209 (dk_at dksX0_round_1 21 rfl rfl)
theorem dX0_round_47 : decode cX0_round 47 = .ok (.putfield 224, 3) := dk_181 0 224 (dk_at dksX0_round_2 0 rfl rfl)
theorem dX0_round_50 : decode cX0_round 50 = .ok (.aload_n 0, 1) := dk_42 (dk_at dksX0_round_2 3 rfl rfl)
theorem dX0_round_51 : decode cX0_round 51 = .ok (.iconst 0, 1) := dk_3 (dk_at dksX0_round_2 4 rfl rfl)
theorem dX0_round_52 : decode cX0_round 52 = .ok (.iload_n 1, 1) := dk_27 (dk_at dksX0_round_2 5 rfl rfl)
theorem dX0_round_53 : decode cX0_round 53 = .ok (.iload_n 2, 1) := dk_28 (dk_at dksX0_round_2 6 rfl rfl)
theorem dX0_round_54 : decode cX0_round 54 = .ok (.iconst 1, 1) := dk_4 (dk_at dksX0_round_2 7 rfl rfl)
theorem dX0_round_55 : decode cX0_round 55 = .ok (.iload_n 1, 1) := dk_27 (dk_at dksX0_round_2 8 rfl rfl)
theorem dX0_round_56 : decode cX0_round 56 = .ok (.ishl, 1) := dk_120 (dk_at dksX0_round_2 9 rfl rfl)
theorem dX0_round_57 : decode cX0_round 57 = .ok (.invokevirtual 233, 3) := dk_182 0 233 (dk_at dksX0_round_2 10 rfl rfl)
theorem dX0_round_60 : decode cX0_round 60 = .ok (.aload_n 0, 1) := dk_42 (dk_at dksX0_round_2 13 rfl rfl)
theorem dX0_round_61 : decode cX0_round 61 = .ok (.getfield 224, 3) := dk_180 0 224 (dk_at dksX0_round_2 14 rfl rfl)
theorem dX0_round_64 : decode cX0_round 64 = .ok (.sipush 2001, 3) := dk_17 7 209 (dk_at dksX0_round_2 17 rfl rfl)
theorem dX0_round_67 : decode cX0_round 67 = .ok (.if_icmp .ne 8, 3) := dk_160 0 8 (dk_at dksX0_round_2 20 rfl rfl)
theorem dX0_round_70 : decode cX0_round 70 = .ok (.bipush (-9), 2) := dk_16 247 (dk_at dksX0_round_3 0 rfl rfl)
theorem dX0_round_72 : decode cX0_round 72 = .ok (.goto 20, 3) := dk_167 0 20 (dk_at dksX0_round_3 2 rfl rfl)
theorem dX0_round_75 : decode cX0_round 75 = .ok (.iload_n 3, 1) := dk_29 (dk_at dksX0_round_3 5 rfl rfl)
theorem dX0_round_76 : decode cX0_round 76 = .ok (.ifCond .ge 10, 3) := dk_156 0 10 (dk_at dksX0_round_3 6 rfl rfl)
theorem dX0_round_79 : decode cX0_round 79 = .ok (.aload_n 0, 1) := dk_42 (dk_at dksX0_round_3 9 rfl rfl)
theorem dX0_round_80 : decode cX0_round 80 = .ok (.getfield 224, 3) := dk_180 0 224 (dk_at dksX0_round_3 10 rfl rfl)
theorem dX0_round_83 : decode cX0_round 83 = .ok (.goto 9, 3) := dk_167 0 9 (dk_at dksX0_round_3 13 rfl rfl)
theorem dX0_round_86 : decode cX0_round 86 = .ok (.aload_n 0, 1) := dk_42 (dk_at dksX0_round_3 16 rfl rfl)
theorem dX0_round_87 : decode cX0_round 87 = .ok (.getfield 49, 3) := dk_180 0 49 (dk_at dksX0_round_3 17 rfl rfl)
theorem dX0_round_90 : decode cX0_round 90 = .ok (.iload_n 3, 1) := dk_29 (dk_at dksX0_round_3 20 rfl rfl)
theorem dX0_round_91 : decode cX0_round 91 = .ok (.iaload, 1) := dk_46 (dk_at dksX0_round_3 21 rfl rfl)
theorem dX0_round_92 : decode cX0_round 92 = .ok (.ireturn, 1) := dk_172 (dk_at dksX0_round_3 22 rfl rfl)
abbrev cX0_tryRounds : ByteArray := prog_1_method_35_code
def yX0_tryRounds : MethodName := ⟨RX0, "tryRounds", "(IIII)V"⟩
def dkwX0_tryRounds_5 : List UInt8 := [167, 255, 178, 177]
abbrev dktX0_tryRounds_5 : List UInt8 := dkwX0_tryRounds_5 ++ []
def dkwX0_tryRounds_4 : List UInt8 := [21, 5, 42, 180, 0, 40, 21, 5, 46, 4, 96, 21, 4, 4, 21, 5, 120, 128, 182, 0, 233, 132, 5, 1]
abbrev dktX0_tryRounds_4 : List UInt8 := dkwX0_tryRounds_4 ++ dktX0_tryRounds_5
def dkwX0_tryRounds_3 : List UInt8 := [21, 5, 46, 4, 96, 42, 180, 0, 224, 162, 0, 36, 42, 180, 0, 46, 27, 21, 5, 79, 42, 27, 4, 96]
abbrev dktX0_tryRounds_3 : List UInt8 := dkwX0_tryRounds_3 ++ dktX0_tryRounds_4
def dkwX0_tryRounds_2 : List UInt8 := [162, 0, 75, 21, 4, 21, 5, 184, 0, 195, 154, 0, 59, 42, 28, 29, 3, 182, 0, 213, 42, 180, 0, 40]
abbrev dktX0_tryRounds_2 : List UInt8 := dkwX0_tryRounds_2 ++ dktX0_tryRounds_3
def dkwX0_tryRounds_1 : List UInt8 := [180, 0, 46, 3, 42, 180, 0, 49, 3, 27, 184, 0, 227, 177, 3, 54, 5, 21, 5, 42, 180, 0, 61]
abbrev dktX0_tryRounds_1 : List UInt8 := dkwX0_tryRounds_1 ++ dktX0_tryRounds_2
def dkwX0_tryRounds_0 : List UInt8 := [27, 42, 180, 0, 61, 4, 100, 160, 0, 31, 29, 42, 180, 0, 224, 162, 0, 22, 42, 29, 181, 0, 224, 42]
abbrev dktX0_tryRounds_0 : List UInt8 := dkwX0_tryRounds_0 ++ dktX0_tryRounds_1
theorem dksX0_tryRounds_0 : cX0_tryRounds.data.toList.drop 0 = dktX0_tryRounds_0 := by decide +kernel
theorem dksX0_tryRounds_1 : cX0_tryRounds.data.toList.drop 24 = dktX0_tryRounds_1 := dk_seg dksX0_tryRounds_0 24 rfl rfl
theorem dksX0_tryRounds_2 : cX0_tryRounds.data.toList.drop 47 = dktX0_tryRounds_2 := dk_seg dksX0_tryRounds_1 23 rfl rfl
theorem dksX0_tryRounds_3 : cX0_tryRounds.data.toList.drop 71 = dktX0_tryRounds_3 := dk_seg dksX0_tryRounds_2 24 rfl rfl
theorem dksX0_tryRounds_4 : cX0_tryRounds.data.toList.drop 95 = dktX0_tryRounds_4 := dk_seg dksX0_tryRounds_3 24 rfl rfl
theorem dksX0_tryRounds_5 : cX0_tryRounds.data.toList.drop 119 = dktX0_tryRounds_5 := dk_seg dksX0_tryRounds_4 24 rfl rfl
theorem dX0_tryRounds_0 : decode cX0_tryRounds 0 = .ok (.iload_n 1, 1) := dk_27 (dk_at dksX0_tryRounds_0 0 rfl rfl)
theorem dX0_tryRounds_1 : decode cX0_tryRounds 1 = .ok (.aload_n 0, 1) := dk_42 (dk_at dksX0_tryRounds_0 1 rfl rfl)
theorem dX0_tryRounds_2 : decode cX0_tryRounds 2 = .ok (.getfield 61, 3) := dk_180 0 61 (dk_at dksX0_tryRounds_0 2 rfl rfl)
theorem dX0_tryRounds_5 : decode cX0_tryRounds 5 = .ok (.iconst 1, 1) := dk_4 (dk_at dksX0_tryRounds_0 5 rfl rfl)
theorem dX0_tryRounds_6 : decode cX0_tryRounds 6 = .ok (.isub, 1) := dk_100 (dk_at dksX0_tryRounds_0 6 rfl rfl)
theorem dX0_tryRounds_7 : decode cX0_tryRounds 7 = .ok (.if_icmp .ne 31, 3) := dk_160 0 31 (dk_at dksX0_tryRounds_0 7 rfl rfl)
theorem dX0_tryRounds_10 : decode cX0_tryRounds 10 = .ok (.iload_n 3, 1) := dk_29 (dk_at dksX0_tryRounds_0 10 rfl rfl)
theorem dX0_tryRounds_11 : decode cX0_tryRounds 11 = .ok (.aload_n 0, 1) := dk_42 (dk_at dksX0_tryRounds_0 11 rfl rfl)
theorem dX0_tryRounds_12 : decode cX0_tryRounds 12 = .ok (.getfield 224, 3) := dk_180 0 224 (dk_at dksX0_tryRounds_0 12 rfl rfl)
theorem dX0_tryRounds_15 : decode cX0_tryRounds 15 = .ok (.if_icmp .ge 22, 3) := dk_162 0 22 (dk_at dksX0_tryRounds_0 15 rfl rfl)
theorem dX0_tryRounds_18 : decode cX0_tryRounds 18 = .ok (.aload_n 0, 1) := dk_42 (dk_at dksX0_tryRounds_0 18 rfl rfl)
theorem dX0_tryRounds_19 : decode cX0_tryRounds 19 = .ok (.iload_n 3, 1) := dk_29 (dk_at dksX0_tryRounds_0 19 rfl rfl)
theorem dX0_tryRounds_20 : decode cX0_tryRounds 20 = .ok (.putfield 224, 3) := dk_181 0 224 (dk_at dksX0_tryRounds_0 20 rfl rfl)
theorem dX0_tryRounds_23 : decode cX0_tryRounds 23 = .ok (.aload_n 0, 1) := dk_42 (dk_at dksX0_tryRounds_0 23 rfl rfl)
theorem dX0_tryRounds_24 : decode cX0_tryRounds 24 = .ok (.getfield 46, 3) := dk_180 0 46 (dk_at dksX0_tryRounds_1 0 rfl rfl)
theorem dX0_tryRounds_27 : decode cX0_tryRounds 27 = .ok (.iconst 0, 1) := dk_3 (dk_at dksX0_tryRounds_1 3 rfl rfl)
theorem dX0_tryRounds_28 : decode cX0_tryRounds 28 = .ok (.aload_n 0, 1) := dk_42 (dk_at dksX0_tryRounds_1 4 rfl rfl)
theorem dX0_tryRounds_29 : decode cX0_tryRounds 29 = .ok (.getfield 49, 3) := dk_180 0 49 (dk_at dksX0_tryRounds_1 5 rfl rfl)
theorem dX0_tryRounds_32 : decode cX0_tryRounds 32 = .ok (.iconst 0, 1) := dk_3 (dk_at dksX0_tryRounds_1 8 rfl rfl)
theorem dX0_tryRounds_33 : decode cX0_tryRounds 33 = .ok (.iload_n 1, 1) := dk_27 (dk_at dksX0_tryRounds_1 9 rfl rfl)
theorem dX0_tryRounds_34 : decode cX0_tryRounds 34 = .ok (.invokestatic 227, 3) := dk_184 0 227 (dk_at dksX0_tryRounds_1 10 rfl rfl)
theorem dX0_tryRounds_37 : decode cX0_tryRounds 37 = .ok (.return_, 1) := dk_177 (dk_at dksX0_tryRounds_1 13 rfl rfl)
theorem dX0_tryRounds_38 : decode cX0_tryRounds 38 = .ok (.iconst 0, 1) := dk_3 (dk_at dksX0_tryRounds_1 14 rfl rfl)
theorem dX0_tryRounds_39 : decode cX0_tryRounds 39 = .ok (.istore 5, 2) := dk_54 5 (dk_at dksX0_tryRounds_1 15 rfl rfl)
theorem dX0_tryRounds_41 : decode cX0_tryRounds 41 = .ok (.iload 5, 2) := dk_21 5 (dk_at dksX0_tryRounds_1 17 rfl rfl)
theorem dX0_tryRounds_43 : decode cX0_tryRounds 43 = .ok (.aload_n 0, 1) := dk_42 (dk_at dksX0_tryRounds_1 19 rfl rfl)
theorem dX0_tryRounds_44 : decode cX0_tryRounds 44 = .ok (.getfield 61, 3) := dk_180 0 61 (dk_at dksX0_tryRounds_1 20 rfl rfl)
theorem dX0_tryRounds_47 : decode cX0_tryRounds 47 = .ok (.if_icmp .ge 75, 3) := dk_162 0 75 (dk_at dksX0_tryRounds_2 0 rfl rfl)
theorem dX0_tryRounds_50 : decode cX0_tryRounds 50 = .ok (.iload 4, 2) := dk_21 4 (dk_at dksX0_tryRounds_2 3 rfl rfl)
theorem dX0_tryRounds_52 : decode cX0_tryRounds 52 = .ok (.iload 5, 2) := dk_21 5 (dk_at dksX0_tryRounds_2 5 rfl rfl)
theorem dX0_tryRounds_54 : decode cX0_tryRounds 54 = .ok (.invokestatic 195, 3) := dk_184 0 195 (dk_at dksX0_tryRounds_2 7 rfl rfl)
theorem dX0_tryRounds_57 : decode cX0_tryRounds 57 = .ok (.ifCond .ne 59, 3) := dk_154 0 59 (dk_at dksX0_tryRounds_2 10 rfl rfl)
theorem dX0_tryRounds_60 : decode cX0_tryRounds 60 = .ok (.aload_n 0, 1) := dk_42 (dk_at dksX0_tryRounds_2 13 rfl rfl)
theorem dX0_tryRounds_61 : decode cX0_tryRounds 61 = .ok (.iload_n 2, 1) := dk_28 (dk_at dksX0_tryRounds_2 14 rfl rfl)
theorem dX0_tryRounds_62 : decode cX0_tryRounds 62 = .ok (.iload_n 3, 1) := dk_29 (dk_at dksX0_tryRounds_2 15 rfl rfl)
theorem dX0_tryRounds_63 : decode cX0_tryRounds 63 = .ok (.iconst 0, 1) := dk_3 (dk_at dksX0_tryRounds_2 16 rfl rfl)
theorem dX0_tryRounds_64 : decode cX0_tryRounds 64 = .ok (.invokevirtual 213, 3) := dk_182 0 213 (dk_at dksX0_tryRounds_2 17 rfl rfl)
theorem dX0_tryRounds_67 : decode cX0_tryRounds 67 = .ok (.aload_n 0, 1) := dk_42 (dk_at dksX0_tryRounds_2 20 rfl rfl)
theorem dX0_tryRounds_68 : decode cX0_tryRounds 68 = .ok (.getfield 40, 3) := dk_180 0 40 (dk_at dksX0_tryRounds_2 21 rfl rfl)
theorem dX0_tryRounds_71 : decode cX0_tryRounds 71 = .ok (.iload 5, 2) := dk_21 5 (dk_at dksX0_tryRounds_3 0 rfl rfl)
theorem dX0_tryRounds_73 : decode cX0_tryRounds 73 = .ok (.iaload, 1) := dk_46 (dk_at dksX0_tryRounds_3 2 rfl rfl)
theorem dX0_tryRounds_74 : decode cX0_tryRounds 74 = .ok (.iconst 1, 1) := dk_4 (dk_at dksX0_tryRounds_3 3 rfl rfl)
theorem dX0_tryRounds_75 : decode cX0_tryRounds 75 = .ok (.iadd, 1) := dk_96 (dk_at dksX0_tryRounds_3 4 rfl rfl)
theorem dX0_tryRounds_76 : decode cX0_tryRounds 76 = .ok (.aload_n 0, 1) := dk_42 (dk_at dksX0_tryRounds_3 5 rfl rfl)
theorem dX0_tryRounds_77 : decode cX0_tryRounds 77 = .ok (.getfield 224, 3) := dk_180 0 224 (dk_at dksX0_tryRounds_3 6 rfl rfl)
theorem dX0_tryRounds_80 : decode cX0_tryRounds 80 = .ok (.if_icmp .ge 36, 3) := dk_162 0 36 (dk_at dksX0_tryRounds_3 9 rfl rfl)
theorem dX0_tryRounds_83 : decode cX0_tryRounds 83 = .ok (.aload_n 0, 1) := dk_42 (dk_at dksX0_tryRounds_3 12 rfl rfl)
theorem dX0_tryRounds_84 : decode cX0_tryRounds 84 = .ok (.getfield 46, 3) := dk_180 0 46 (dk_at dksX0_tryRounds_3 13 rfl rfl)
theorem dX0_tryRounds_87 : decode cX0_tryRounds 87 = .ok (.iload_n 1, 1) := dk_27 (dk_at dksX0_tryRounds_3 16 rfl rfl)
theorem dX0_tryRounds_88 : decode cX0_tryRounds 88 = .ok (.iload 5, 2) := dk_21 5 (dk_at dksX0_tryRounds_3 17 rfl rfl)
theorem dX0_tryRounds_90 : decode cX0_tryRounds 90 = .ok (.iastore, 1) := dk_79 (dk_at dksX0_tryRounds_3 19 rfl rfl)
theorem dX0_tryRounds_91 : decode cX0_tryRounds 91 = .ok (.aload_n 0, 1) := dk_42 (dk_at dksX0_tryRounds_3 20 rfl rfl)
theorem dX0_tryRounds_92 : decode cX0_tryRounds 92 = .ok (.iload_n 1, 1) := dk_27 (dk_at dksX0_tryRounds_3 21 rfl rfl)
theorem dX0_tryRounds_93 : decode cX0_tryRounds 93 = .ok (.iconst 1, 1) := dk_4 (dk_at dksX0_tryRounds_3 22 rfl rfl)
theorem dX0_tryRounds_94 : decode cX0_tryRounds 94 = .ok (.iadd, 1) := dk_96 (dk_at dksX0_tryRounds_3 23 rfl rfl)
theorem dX0_tryRounds_95 : decode cX0_tryRounds 95 = .ok (.iload 5, 2) := dk_21 5 (dk_at dksX0_tryRounds_4 0 rfl rfl)
theorem dX0_tryRounds_97 : decode cX0_tryRounds 97 = .ok (.aload_n 0, 1) := dk_42 (dk_at dksX0_tryRounds_4 2 rfl rfl)
theorem dX0_tryRounds_98 : decode cX0_tryRounds 98 = .ok (.getfield 40, 3) := dk_180 0 40 (dk_at dksX0_tryRounds_4 3 rfl rfl)
theorem dX0_tryRounds_101 : decode cX0_tryRounds 101 = .ok (.iload 5, 2) := dk_21 5 (dk_at dksX0_tryRounds_4 6 rfl rfl)
theorem dX0_tryRounds_103 : decode cX0_tryRounds 103 = .ok (.iaload, 1) := dk_46 (dk_at dksX0_tryRounds_4 8 rfl rfl)
theorem dX0_tryRounds_104 : decode cX0_tryRounds 104 = .ok (.iconst 1, 1) := dk_4 (dk_at dksX0_tryRounds_4 9 rfl rfl)
theorem dX0_tryRounds_105 : decode cX0_tryRounds 105 = .ok (.iadd, 1) := dk_96 (dk_at dksX0_tryRounds_4 10 rfl rfl)
theorem dX0_tryRounds_106 : decode cX0_tryRounds 106 = .ok (.iload 4, 2) := dk_21 4 (dk_at dksX0_tryRounds_4 11 rfl rfl)
theorem dX0_tryRounds_108 : decode cX0_tryRounds 108 = .ok (.iconst 1, 1) := dk_4 (dk_at dksX0_tryRounds_4 13 rfl rfl)
theorem dX0_tryRounds_109 : decode cX0_tryRounds 109 = .ok (.iload 5, 2) := dk_21 5 (dk_at dksX0_tryRounds_4 14 rfl rfl)
theorem dX0_tryRounds_111 : decode cX0_tryRounds 111 = .ok (.ishl, 1) := dk_120 (dk_at dksX0_tryRounds_4 16 rfl rfl)
theorem dX0_tryRounds_112 : decode cX0_tryRounds 112 = .ok (.ior, 1) := dk_128 (dk_at dksX0_tryRounds_4 17 rfl rfl)
theorem dX0_tryRounds_113 : decode cX0_tryRounds 113 = .ok (.invokevirtual 233, 3) := dk_182 0 233 (dk_at dksX0_tryRounds_4 18 rfl rfl)
theorem dX0_tryRounds_116 : decode cX0_tryRounds 116 = .ok (.iinc 5 1, 3) := dk_132 5 1 (dk_at dksX0_tryRounds_4 21 rfl rfl)
theorem dX0_tryRounds_119 : decode cX0_tryRounds 119 = .ok (.goto (-78), 3) := dk_167 255 178 (dk_at dksX0_tryRounds_5 0 rfl rfl)
theorem dX0_tryRounds_122 : decode cX0_tryRounds 122 = .ok (.return_, 1) := dk_177 (dk_at dksX0_tryRounds_5 3 rfl rfl)
abbrev cX0_meeting : ByteArray := prog_1_method_37_code
def yX0_meeting : MethodName := ⟨RX0, "meeting", "(III)I"⟩
def dkwX0_meeting_9 : List UInt8 := [167, 0, 19, 29, 154, 0, 13, 42, 180, 0, 52, 21, 4, 46, 167, 0, 5, 21, 4, 172]
abbrev dktX0_meeting_9 : List UInt8 := dkwX0_meeting_9 ++ []
def dkwX0_meeting_8 : List UInt8 := [54, 4, 132, 5, 1, 167, 255, 218, 42, 180, 0, 52, 21, 4, 46, 17, 7, 209, 160, 0, 8, 16, 247]
abbrev dktX0_meeting_8 : List UInt8 := dkwX0_meeting_8 ++ dktX0_meeting_9
def dkwX0_meeting_7 : List UInt8 := [180, 0, 52, 21, 5, 46, 42, 180, 0, 52, 21, 4, 46, 162, 0, 8, 21, 5, 167, 0, 5, 21, 4]
abbrev dktX0_meeting_7 : List UInt8 := dkwX0_meeting_7 ++ dktX0_meeting_8
def dkwX0_meeting_6 : List UInt8 := [132, 4, 1, 167, 255, 185, 3, 54, 4, 4, 54, 5, 21, 5, 42, 180, 0, 61, 162, 0, 35, 42]
abbrev dktX0_meeting_6 : List UInt8 := dkwX0_meeting_6 ++ dktX0_meeting_7
def dkwX0_meeting_5 : List UInt8 := [180, 0, 52, 21, 5, 46, 42, 180, 0, 40, 21, 5, 46, 184, 0, 239, 79, 132, 5, 1, 167, 255, 220]
abbrev dktX0_meeting_5 : List UInt8 := dkwX0_meeting_5 ++ dktX0_meeting_6
def dkwX0_meeting_4 : List UInt8 := [3, 182, 0, 213, 3, 54, 5, 21, 5, 42, 180, 0, 61, 162, 0, 33, 42, 180, 0, 52, 21, 5, 42]
abbrev dktX0_meeting_4 : List UInt8 := dkwX0_meeting_4 ++ dktX0_meeting_5
def dkwX0_meeting_3 : List UInt8 := [54, 4, 21, 4, 42, 180, 0, 61, 162, 0, 68, 27, 21, 4, 184, 0, 195, 153, 0, 53, 42, 21, 4, 28]
abbrev dktX0_meeting_3 : List UInt8 := dkwX0_meeting_3 ++ dktX0_meeting_4
def dkwX0_meeting_2 : List UInt8 := [21, 4, 42, 180, 0, 61, 162, 0, 17, 42, 180, 0, 52, 21, 4, 3, 79, 132, 4, 1, 167, 255, 236, 3]
abbrev dktX0_meeting_2 : List UInt8 := dkwX0_meeting_2 ++ dktX0_meeting_3
def dkwX0_meeting_1 : List UInt8 := [153, 0, 13, 29, 133, 9, 10, 184, 0, 11, 154, 0, 6, 16, 254, 172, 42, 3, 182, 0, 209, 3, 54, 4]
abbrev dktX0_meeting_1 : List UInt8 := dkwX0_meeting_1 ++ dktX0_meeting_2
def dkwX0_meeting_0 : List UInt8 := [27, 133, 10, 4, 42, 180, 0, 61, 120, 4, 100, 133, 184, 0, 11, 153, 0, 20, 28, 184, 0, 125]
abbrev dktX0_meeting_0 : List UInt8 := dkwX0_meeting_0 ++ dktX0_meeting_1
theorem dksX0_meeting_0 : cX0_meeting.data.toList.drop 0 = dktX0_meeting_0 := by decide +kernel
theorem dksX0_meeting_1 : cX0_meeting.data.toList.drop 22 = dktX0_meeting_1 := dk_seg dksX0_meeting_0 22 rfl rfl
theorem dksX0_meeting_2 : cX0_meeting.data.toList.drop 46 = dktX0_meeting_2 := dk_seg dksX0_meeting_1 24 rfl rfl
theorem dksX0_meeting_3 : cX0_meeting.data.toList.drop 70 = dktX0_meeting_3 := dk_seg dksX0_meeting_2 24 rfl rfl
theorem dksX0_meeting_4 : cX0_meeting.data.toList.drop 94 = dktX0_meeting_4 := dk_seg dksX0_meeting_3 24 rfl rfl
theorem dksX0_meeting_5 : cX0_meeting.data.toList.drop 117 = dktX0_meeting_5 := dk_seg dksX0_meeting_4 23 rfl rfl
theorem dksX0_meeting_6 : cX0_meeting.data.toList.drop 140 = dktX0_meeting_6 := dk_seg dksX0_meeting_5 23 rfl rfl
theorem dksX0_meeting_7 : cX0_meeting.data.toList.drop 162 = dktX0_meeting_7 := dk_seg dksX0_meeting_6 22 rfl rfl
theorem dksX0_meeting_8 : cX0_meeting.data.toList.drop 185 = dktX0_meeting_8 := dk_seg dksX0_meeting_7 23 rfl rfl
theorem dksX0_meeting_9 : cX0_meeting.data.toList.drop 208 = dktX0_meeting_9 := dk_seg dksX0_meeting_8 23 rfl rfl
theorem dX0_meeting_0 : decode cX0_meeting 0 = .ok (.iload_n 1, 1) := dk_27 (dk_at dksX0_meeting_0 0 rfl rfl)
theorem dX0_meeting_1 : decode cX0_meeting 1 = .ok (.i2l, 1) := dk_133 (dk_at dksX0_meeting_0 1 rfl rfl)
theorem dX0_meeting_2 : decode cX0_meeting 2 = .ok (.lconst 1, 1) := dk_10 (dk_at dksX0_meeting_0 2 rfl rfl)
theorem dX0_meeting_3 : decode cX0_meeting 3 = .ok (.iconst 1, 1) := dk_4 (dk_at dksX0_meeting_0 3 rfl rfl)
theorem dX0_meeting_4 : decode cX0_meeting 4 = .ok (.aload_n 0, 1) := dk_42 (dk_at dksX0_meeting_0 4 rfl rfl)
theorem dX0_meeting_5 : decode cX0_meeting 5 = .ok (.getfield 61, 3) := dk_180 0 61 (dk_at dksX0_meeting_0 5 rfl rfl)
theorem dX0_meeting_8 : decode cX0_meeting 8 = .ok (.ishl, 1) := dk_120 (dk_at dksX0_meeting_0 8 rfl rfl)
theorem dX0_meeting_9 : decode cX0_meeting 9 = .ok (.iconst 1, 1) := dk_4 (dk_at dksX0_meeting_0 9 rfl rfl)
theorem dX0_meeting_10 : decode cX0_meeting 10 = .ok (.isub, 1) := dk_100 (dk_at dksX0_meeting_0 10 rfl rfl)
theorem dX0_meeting_11 : decode cX0_meeting 11 = .ok (.i2l, 1) := dk_133 (dk_at dksX0_meeting_0 11 rfl rfl)
theorem dX0_meeting_12 : decode cX0_meeting 12 = .ok (.invokestatic 11, 3) := dk_184 0 11 (dk_at dksX0_meeting_0 12 rfl rfl)
theorem dX0_meeting_15 : decode cX0_meeting 15 = .ok (.ifCond .eq 20, 3) := dk_153 0 20 (dk_at dksX0_meeting_0 15 rfl rfl)
theorem dX0_meeting_18 : decode cX0_meeting 18 = .ok (.iload_n 2, 1) := dk_28 (dk_at dksX0_meeting_0 18 rfl rfl)
theorem dX0_meeting_19 : decode cX0_meeting 19 = .ok (.invokestatic 125, 3) := dk_184 0 125 (dk_at dksX0_meeting_0 19 rfl rfl)
theorem dX0_meeting_22 : decode cX0_meeting 22 = .ok (.ifCond .eq 13, 3) := dk_153 0 13 (dk_at dksX0_meeting_1 0 rfl rfl)
theorem dX0_meeting_25 : decode cX0_meeting 25 = .ok (.iload_n 3, 1) := dk_29 (dk_at dksX0_meeting_1 3 rfl rfl)
theorem dX0_meeting_26 : decode cX0_meeting 26 = .ok (.i2l, 1) := dk_133 (dk_at dksX0_meeting_1 4 rfl rfl)
theorem dX0_meeting_27 : decode cX0_meeting 27 = .ok (.lconst 0, 1) := dk_9 (dk_at dksX0_meeting_1 5 rfl rfl)
theorem dX0_meeting_28 : decode cX0_meeting 28 = .ok (.lconst 1, 1) := dk_10 (dk_at dksX0_meeting_1 6 rfl rfl)
theorem dX0_meeting_29 : decode cX0_meeting 29 = .ok (.invokestatic 11, 3) := dk_184 0 11 (dk_at dksX0_meeting_1 7 rfl rfl)
theorem dX0_meeting_32 : decode cX0_meeting 32 = .ok (.ifCond .ne 6, 3) := dk_154 0 6 (dk_at dksX0_meeting_1 10 rfl rfl)
theorem dX0_meeting_35 : decode cX0_meeting 35 = .ok (.bipush (-2), 2) := dk_16 254 (dk_at dksX0_meeting_1 13 rfl rfl)
theorem dX0_meeting_37 : decode cX0_meeting 37 = .ok (.ireturn, 1) := dk_172 (dk_at dksX0_meeting_1 15 rfl rfl)
theorem dX0_meeting_38 : decode cX0_meeting 38 = .ok (.aload_n 0, 1) := dk_42 (dk_at dksX0_meeting_1 16 rfl rfl)
theorem dX0_meeting_39 : decode cX0_meeting 39 = .ok (.iconst 0, 1) := dk_3 (dk_at dksX0_meeting_1 17 rfl rfl)
theorem dX0_meeting_40 : decode cX0_meeting 40 = .ok (.invokevirtual 209, 3) := dk_182 0 209 (dk_at dksX0_meeting_1 18 rfl rfl)
theorem dX0_meeting_43 : decode cX0_meeting 43 = .ok (.iconst 0, 1) := dk_3 (dk_at dksX0_meeting_1 21 rfl rfl)
theorem dX0_meeting_44 : decode cX0_meeting 44 = .ok (.istore 4, 2) := dk_54 4 (dk_at dksX0_meeting_1 22 rfl rfl)
theorem dX0_meeting_46 : decode cX0_meeting 46 = .ok (.iload 4, 2) := dk_21 4 (dk_at dksX0_meeting_2 0 rfl rfl)
theorem dX0_meeting_48 : decode cX0_meeting 48 = .ok (.aload_n 0, 1) := dk_42 (dk_at dksX0_meeting_2 2 rfl rfl)
theorem dX0_meeting_49 : decode cX0_meeting 49 = .ok (.getfield 61, 3) := dk_180 0 61 (dk_at dksX0_meeting_2 3 rfl rfl)
theorem dX0_meeting_52 : decode cX0_meeting 52 = .ok (.if_icmp .ge 17, 3) := dk_162 0 17 (dk_at dksX0_meeting_2 6 rfl rfl)
theorem dX0_meeting_55 : decode cX0_meeting 55 = .ok (.aload_n 0, 1) := dk_42 (dk_at dksX0_meeting_2 9 rfl rfl)
theorem dX0_meeting_56 : decode cX0_meeting 56 = .ok (.getfield 52, 3) := dk_180 0 52 (dk_at dksX0_meeting_2 10 rfl rfl)
theorem dX0_meeting_59 : decode cX0_meeting 59 = .ok (.iload 4, 2) := dk_21 4 (dk_at dksX0_meeting_2 13 rfl rfl)
theorem dX0_meeting_61 : decode cX0_meeting 61 = .ok (.iconst 0, 1) := dk_3 (dk_at dksX0_meeting_2 15 rfl rfl)
theorem dX0_meeting_62 : decode cX0_meeting 62 = .ok (.iastore, 1) := dk_79 (dk_at dksX0_meeting_2 16 rfl rfl)
theorem dX0_meeting_63 : decode cX0_meeting 63 = .ok (.iinc 4 1, 3) := dk_132 4 1 (dk_at dksX0_meeting_2 17 rfl rfl)
theorem dX0_meeting_66 : decode cX0_meeting 66 = .ok (.goto (-20), 3) := dk_167 255 236 (dk_at dksX0_meeting_2 20 rfl rfl)
theorem dX0_meeting_69 : decode cX0_meeting 69 = .ok (.iconst 0, 1) := dk_3 (dk_at dksX0_meeting_2 23 rfl rfl)
theorem dX0_meeting_70 : decode cX0_meeting 70 = .ok (.istore 4, 2) := dk_54 4 (dk_at dksX0_meeting_3 0 rfl rfl)
theorem dX0_meeting_72 : decode cX0_meeting 72 = .ok (.iload 4, 2) := dk_21 4 (dk_at dksX0_meeting_3 2 rfl rfl)
theorem dX0_meeting_74 : decode cX0_meeting 74 = .ok (.aload_n 0, 1) := dk_42 (dk_at dksX0_meeting_3 4 rfl rfl)
theorem dX0_meeting_75 : decode cX0_meeting 75 = .ok (.getfield 61, 3) := dk_180 0 61 (dk_at dksX0_meeting_3 5 rfl rfl)
theorem dX0_meeting_78 : decode cX0_meeting 78 = .ok (.if_icmp .ge 68, 3) := dk_162 0 68 (dk_at dksX0_meeting_3 8 rfl rfl)
theorem dX0_meeting_81 : decode cX0_meeting 81 = .ok (.iload_n 1, 1) := dk_27 (dk_at dksX0_meeting_3 11 rfl rfl)
theorem dX0_meeting_82 : decode cX0_meeting 82 = .ok (.iload 4, 2) := dk_21 4 (dk_at dksX0_meeting_3 12 rfl rfl)
theorem dX0_meeting_84 : decode cX0_meeting 84 = .ok (.invokestatic 195, 3) := dk_184 0 195 (dk_at dksX0_meeting_3 14 rfl rfl)
theorem dX0_meeting_87 : decode cX0_meeting 87 = .ok (.ifCond .eq 53, 3) := dk_153 0 53 (dk_at dksX0_meeting_3 17 rfl rfl)
theorem dX0_meeting_90 : decode cX0_meeting 90 = .ok (.aload_n 0, 1) := dk_42 (dk_at dksX0_meeting_3 20 rfl rfl)
theorem dX0_meeting_91 : decode cX0_meeting 91 = .ok (.iload 4, 2) := dk_21 4 (dk_at dksX0_meeting_3 21 rfl rfl)
theorem dX0_meeting_93 : decode cX0_meeting 93 = .ok (.iload_n 2, 1) := dk_28 (dk_at dksX0_meeting_3 23 rfl rfl)
theorem dX0_meeting_94 : decode cX0_meeting 94 = .ok (.iconst 0, 1) := dk_3 (dk_at dksX0_meeting_4 0 rfl rfl)
theorem dX0_meeting_95 : decode cX0_meeting 95 = .ok (.invokevirtual 213, 3) := dk_182 0 213 (dk_at dksX0_meeting_4 1 rfl rfl)
theorem dX0_meeting_98 : decode cX0_meeting 98 = .ok (.iconst 0, 1) := dk_3 (dk_at dksX0_meeting_4 4 rfl rfl)
theorem dX0_meeting_99 : decode cX0_meeting 99 = .ok (.istore 5, 2) := dk_54 5 (dk_at dksX0_meeting_4 5 rfl rfl)
theorem dX0_meeting_101 : decode cX0_meeting 101 = .ok (.iload 5, 2) := dk_21 5 (dk_at dksX0_meeting_4 7 rfl rfl)
theorem dX0_meeting_103 : decode cX0_meeting 103 = .ok (.aload_n 0, 1) := dk_42 (dk_at dksX0_meeting_4 9 rfl rfl)
theorem dX0_meeting_104 : decode cX0_meeting 104 = .ok (.getfield 61, 3) := dk_180 0 61 (dk_at dksX0_meeting_4 10 rfl rfl)
theorem dX0_meeting_107 : decode cX0_meeting 107 = .ok (.if_icmp .ge 33, 3) := dk_162 0 33 (dk_at dksX0_meeting_4 13 rfl rfl)
theorem dX0_meeting_110 : decode cX0_meeting 110 = .ok (.aload_n 0, 1) := dk_42 (dk_at dksX0_meeting_4 16 rfl rfl)
theorem dX0_meeting_111 : decode cX0_meeting 111 = .ok (.getfield 52, 3) := dk_180 0 52 (dk_at dksX0_meeting_4 17 rfl rfl)
theorem dX0_meeting_114 : decode cX0_meeting 114 = .ok (.iload 5, 2) := dk_21 5 (dk_at dksX0_meeting_4 20 rfl rfl)
theorem dX0_meeting_116 : decode cX0_meeting 116 = .ok (.aload_n 0, 1) := dk_42 (dk_at dksX0_meeting_4 22 rfl rfl)
theorem dX0_meeting_117 : decode cX0_meeting 117 = .ok (.getfield 52, 3) := dk_180 0 52 (dk_at dksX0_meeting_5 0 rfl rfl)
theorem dX0_meeting_120 : decode cX0_meeting 120 = .ok (.iload 5, 2) := dk_21 5 (dk_at dksX0_meeting_5 3 rfl rfl)
theorem dX0_meeting_122 : decode cX0_meeting 122 = .ok (.iaload, 1) := dk_46 (dk_at dksX0_meeting_5 5 rfl rfl)
theorem dX0_meeting_123 : decode cX0_meeting 123 = .ok (.aload_n 0, 1) := dk_42 (dk_at dksX0_meeting_5 6 rfl rfl)
theorem dX0_meeting_124 : decode cX0_meeting 124 = .ok (.getfield 40, 3) := dk_180 0 40 (dk_at dksX0_meeting_5 7 rfl rfl)
theorem dX0_meeting_127 : decode cX0_meeting 127 = .ok (.iload 5, 2) := dk_21 5 (dk_at dksX0_meeting_5 10 rfl rfl)
theorem dX0_meeting_129 : decode cX0_meeting 129 = .ok (.iaload, 1) := dk_46 (dk_at dksX0_meeting_5 12 rfl rfl)
theorem dX0_meeting_130 : decode cX0_meeting 130 = .ok (.invokestatic 239, 3) := dk_184 0 239 (dk_at dksX0_meeting_5 13 rfl rfl)
theorem dX0_meeting_133 : decode cX0_meeting 133 = .ok (.iastore, 1) := dk_79 (dk_at dksX0_meeting_5 16 rfl rfl)
theorem dX0_meeting_134 : decode cX0_meeting 134 = .ok (.iinc 5 1, 3) := dk_132 5 1 (dk_at dksX0_meeting_5 17 rfl rfl)
theorem dX0_meeting_137 : decode cX0_meeting 137 = .ok (.goto (-36), 3) := dk_167 255 220 (dk_at dksX0_meeting_5 20 rfl rfl)
theorem dX0_meeting_140 : decode cX0_meeting 140 = .ok (.iinc 4 1, 3) := dk_132 4 1 (dk_at dksX0_meeting_6 0 rfl rfl)
theorem dX0_meeting_143 : decode cX0_meeting 143 = .ok (.goto (-71), 3) := dk_167 255 185 (dk_at dksX0_meeting_6 3 rfl rfl)
theorem dX0_meeting_146 : decode cX0_meeting 146 = .ok (.iconst 0, 1) := dk_3 (dk_at dksX0_meeting_6 6 rfl rfl)
theorem dX0_meeting_147 : decode cX0_meeting 147 = .ok (.istore 4, 2) := dk_54 4 (dk_at dksX0_meeting_6 7 rfl rfl)
theorem dX0_meeting_149 : decode cX0_meeting 149 = .ok (.iconst 1, 1) := dk_4 (dk_at dksX0_meeting_6 9 rfl rfl)
theorem dX0_meeting_150 : decode cX0_meeting 150 = .ok (.istore 5, 2) := dk_54 5 (dk_at dksX0_meeting_6 10 rfl rfl)
theorem dX0_meeting_152 : decode cX0_meeting 152 = .ok (.iload 5, 2) := dk_21 5 (dk_at dksX0_meeting_6 12 rfl rfl)
theorem dX0_meeting_154 : decode cX0_meeting 154 = .ok (.aload_n 0, 1) := dk_42 (dk_at dksX0_meeting_6 14 rfl rfl)
theorem dX0_meeting_155 : decode cX0_meeting 155 = .ok (.getfield 61, 3) := dk_180 0 61 (dk_at dksX0_meeting_6 15 rfl rfl)
theorem dX0_meeting_158 : decode cX0_meeting 158 = .ok (.if_icmp .ge 35, 3) := dk_162 0 35 (dk_at dksX0_meeting_6 18 rfl rfl)
theorem dX0_meeting_161 : decode cX0_meeting 161 = .ok (.aload_n 0, 1) := dk_42 (dk_at dksX0_meeting_6 21 rfl rfl)
theorem dX0_meeting_162 : decode cX0_meeting 162 = .ok (.getfield 52, 3) := dk_180 0 52 (dk_at dksX0_meeting_7 0 rfl rfl)
theorem dX0_meeting_165 : decode cX0_meeting 165 = .ok (.iload 5, 2) := dk_21 5 (dk_at dksX0_meeting_7 3 rfl rfl)
theorem dX0_meeting_167 : decode cX0_meeting 167 = .ok (.iaload, 1) := dk_46 (dk_at dksX0_meeting_7 5 rfl rfl)
theorem dX0_meeting_168 : decode cX0_meeting 168 = .ok (.aload_n 0, 1) := dk_42 (dk_at dksX0_meeting_7 6 rfl rfl)
theorem dX0_meeting_169 : decode cX0_meeting 169 = .ok (.getfield 52, 3) := dk_180 0 52 (dk_at dksX0_meeting_7 7 rfl rfl)
theorem dX0_meeting_172 : decode cX0_meeting 172 = .ok (.iload 4, 2) := dk_21 4 (dk_at dksX0_meeting_7 10 rfl rfl)
theorem dX0_meeting_174 : decode cX0_meeting 174 = .ok (.iaload, 1) := dk_46 (dk_at dksX0_meeting_7 12 rfl rfl)
theorem dX0_meeting_175 : decode cX0_meeting 175 = .ok (.if_icmp .ge 8, 3) := dk_162 0 8 (dk_at dksX0_meeting_7 13 rfl rfl)
theorem dX0_meeting_178 : decode cX0_meeting 178 = .ok (.iload 5, 2) := dk_21 5 (dk_at dksX0_meeting_7 16 rfl rfl)
theorem dX0_meeting_180 : decode cX0_meeting 180 = .ok (.goto 5, 3) := dk_167 0 5 (dk_at dksX0_meeting_7 18 rfl rfl)
theorem dX0_meeting_183 : decode cX0_meeting 183 = .ok (.iload 4, 2) := dk_21 4 (dk_at dksX0_meeting_7 21 rfl rfl)
theorem dX0_meeting_185 : decode cX0_meeting 185 = .ok (.istore 4, 2) := dk_54 4 (dk_at dksX0_meeting_8 0 rfl rfl)
theorem dX0_meeting_187 : decode cX0_meeting 187 = .ok (.iinc 5 1, 3) := dk_132 5 1 (dk_at dksX0_meeting_8 2 rfl rfl)
theorem dX0_meeting_190 : decode cX0_meeting 190 = .ok (.goto (-38), 3) := dk_167 255 218 (dk_at dksX0_meeting_8 5 rfl rfl)
theorem dX0_meeting_193 : decode cX0_meeting 193 = .ok (.aload_n 0, 1) := dk_42 (dk_at dksX0_meeting_8 8 rfl rfl)
theorem dX0_meeting_194 : decode cX0_meeting 194 = .ok (.getfield 52, 3) := dk_180 0 52 (dk_at dksX0_meeting_8 9 rfl rfl)
theorem dX0_meeting_197 : decode cX0_meeting 197 = .ok (.iload 4, 2) := dk_21 4 (dk_at dksX0_meeting_8 12 rfl rfl)
theorem dX0_meeting_199 : decode cX0_meeting 199 = .ok (.iaload, 1) := dk_46 (dk_at dksX0_meeting_8 14 rfl rfl)
theorem dX0_meeting_200 : decode cX0_meeting 200 = .ok (.sipush 2001, 3) := dk_17 7 209 (dk_at dksX0_meeting_8 15 rfl rfl)
theorem dX0_meeting_203 : decode cX0_meeting 203 = .ok (.if_icmp .ne 8, 3) := dk_160 0 8 (dk_at dksX0_meeting_8 18 rfl rfl)
theorem dX0_meeting_206 : decode cX0_meeting 206 = .ok (.bipush (-9), 2) := dk_16 247 (dk_at dksX0_meeting_8 21 rfl rfl)
theorem dX0_meeting_208 : decode cX0_meeting 208 = .ok (.goto 19, 3) := dk_167 0 19 (dk_at dksX0_meeting_9 0 rfl rfl)
theorem dX0_meeting_211 : decode cX0_meeting 211 = .ok (.iload_n 3, 1) := dk_29 (dk_at dksX0_meeting_9 3 rfl rfl)
theorem dX0_meeting_212 : decode cX0_meeting 212 = .ok (.ifCond .ne 13, 3) := dk_154 0 13 (dk_at dksX0_meeting_9 4 rfl rfl)
theorem dX0_meeting_215 : decode cX0_meeting 215 = .ok (.aload_n 0, 1) := dk_42 (dk_at dksX0_meeting_9 7 rfl rfl)
theorem dX0_meeting_216 : decode cX0_meeting 216 = .ok (.getfield 52, 3) := dk_180 0 52 (dk_at dksX0_meeting_9 8 rfl rfl)
theorem dX0_meeting_219 : decode cX0_meeting 219 = .ok (.iload 4, 2) := dk_21 4 (dk_at dksX0_meeting_9 11 rfl rfl)
theorem dX0_meeting_221 : decode cX0_meeting 221 = .ok (.iaload, 1) := dk_46 (dk_at dksX0_meeting_9 13 rfl rfl)
theorem dX0_meeting_222 : decode cX0_meeting 222 = .ok (.goto 5, 3) := dk_167 0 5 (dk_at dksX0_meeting_9 14 rfl rfl)
theorem dX0_meeting_225 : decode cX0_meeting 225 = .ok (.iload 4, 2) := dk_21 4 (dk_at dksX0_meeting_9 17 rfl rfl)
theorem dX0_meeting_227 : decode cX0_meeting 227 = .ok (.ireturn, 1) := dk_172 (dk_at dksX0_meeting_9 19 rfl rfl)
abbrev cX0_saves : ByteArray := prog_1_method_38_code
def yX0_saves : MethodName := ⟨RX0, "saves", "(IIII)I"⟩
def dkwX0_saves_6 : List UInt8 := [21, 6, 42, 180, 0, 40, 29, 46, 100, 172]
abbrev dktX0_saves_6 : List UInt8 := dkwX0_saves_6 ++ []
def dkwX0_saves_5 : List UInt8 := [21, 4, 3, 182, 0, 213, 42, 180, 0, 40, 29, 46, 17, 7, 209, 160, 0, 8, 16, 247, 167, 0, 12]
abbrev dktX0_saves_5 : List UInt8 := dkwX0_saves_5 ++ dktX0_saves_6
def dkwX0_saves_4 : List UInt8 := [181, 0, 167, 42, 25, 5, 3, 182, 0, 191, 25, 5, 89, 180, 0, 167, 4, 100, 181, 0, 167, 42, 28]
abbrev dktX0_saves_4 : List UInt8 := dkwX0_saves_4 ++ dktX0_saves_5
def dkwX0_saves_3 : List UInt8 := [21, 4, 3, 182, 0, 213, 42, 180, 0, 40, 29, 46, 54, 6, 25, 5, 89, 180, 0, 167, 4, 96]
abbrev dktX0_saves_3 : List UInt8 := dkwX0_saves_3 ++ dktX0_saves_4
def dkwX0_saves_2 : List UInt8 := [192, 0, 147, 58, 5, 25, 5, 182, 0, 164, 154, 0, 6, 16, 253, 172, 42, 3, 182, 0, 209, 42, 28]
abbrev dktX0_saves_2 : List UInt8 := dkwX0_saves_2 ++ dktX0_saves_3
def dkwX0_saves_1 : List UInt8 := [2, 172, 21, 4, 184, 0, 125, 154, 0, 6, 16, 254, 172, 42, 180, 0, 28, 27, 185, 0, 112, 2, 0]
abbrev dktX0_saves_1 : List UInt8 := dkwX0_saves_1 ++ dktX0_saves_2
def dkwX0_saves_0 : List UInt8 := [42, 27, 182, 0, 158, 154, 0, 19, 42, 28, 182, 0, 142, 154, 0, 11, 42, 29, 182, 0, 142, 153, 0, 5]
abbrev dktX0_saves_0 : List UInt8 := dkwX0_saves_0 ++ dktX0_saves_1
theorem dksX0_saves_0 : cX0_saves.data.toList.drop 0 = dktX0_saves_0 := by decide +kernel
theorem dksX0_saves_1 : cX0_saves.data.toList.drop 24 = dktX0_saves_1 := dk_seg dksX0_saves_0 24 rfl rfl
theorem dksX0_saves_2 : cX0_saves.data.toList.drop 47 = dktX0_saves_2 := dk_seg dksX0_saves_1 23 rfl rfl
theorem dksX0_saves_3 : cX0_saves.data.toList.drop 70 = dktX0_saves_3 := dk_seg dksX0_saves_2 23 rfl rfl
theorem dksX0_saves_4 : cX0_saves.data.toList.drop 92 = dktX0_saves_4 := dk_seg dksX0_saves_3 22 rfl rfl
theorem dksX0_saves_5 : cX0_saves.data.toList.drop 115 = dktX0_saves_5 := dk_seg dksX0_saves_4 23 rfl rfl
theorem dksX0_saves_6 : cX0_saves.data.toList.drop 138 = dktX0_saves_6 := dk_seg dksX0_saves_5 23 rfl rfl
theorem dX0_saves_0 : decode cX0_saves 0 = .ok (.aload_n 0, 1) := dk_42 (dk_at dksX0_saves_0 0 rfl rfl)
theorem dX0_saves_1 : decode cX0_saves 1 = .ok (.iload_n 1, 1) := dk_27 (dk_at dksX0_saves_0 1 rfl rfl)
theorem dX0_saves_2 : decode cX0_saves 2 = .ok (.invokevirtual 158, 3) := dk_182 0 158 (dk_at dksX0_saves_0 2 rfl rfl)
theorem dX0_saves_5 : decode cX0_saves 5 = .ok (.ifCond .ne 19, 3) := dk_154 0 19 (dk_at dksX0_saves_0 5 rfl rfl)
theorem dX0_saves_8 : decode cX0_saves 8 = .ok (.aload_n 0, 1) := dk_42 (dk_at dksX0_saves_0 8 rfl rfl)
theorem dX0_saves_9 : decode cX0_saves 9 = .ok (.iload_n 2, 1) := dk_28 (dk_at dksX0_saves_0 9 rfl rfl)
theorem dX0_saves_10 : decode cX0_saves 10 = .ok (.invokevirtual 142, 3) := dk_182 0 142 (dk_at dksX0_saves_0 10 rfl rfl)
theorem dX0_saves_13 : decode cX0_saves 13 = .ok (.ifCond .ne 11, 3) := dk_154 0 11 (dk_at dksX0_saves_0 13 rfl rfl)
theorem dX0_saves_16 : decode cX0_saves 16 = .ok (.aload_n 0, 1) := dk_42 (dk_at dksX0_saves_0 16 rfl rfl)
theorem dX0_saves_17 : decode cX0_saves 17 = .ok (.iload_n 3, 1) := dk_29 (dk_at dksX0_saves_0 17 rfl rfl)
theorem dX0_saves_18 : decode cX0_saves 18 = .ok (.invokevirtual 142, 3) := dk_182 0 142 (dk_at dksX0_saves_0 18 rfl rfl)
theorem dX0_saves_21 : decode cX0_saves 21 = .ok (.ifCond .eq 5, 3) := dk_153 0 5 (dk_at dksX0_saves_0 21 rfl rfl)
theorem dX0_saves_24 : decode cX0_saves 24 = .ok (.iconst (-1), 1) := dk_2 (dk_at dksX0_saves_1 0 rfl rfl)
theorem dX0_saves_25 : decode cX0_saves 25 = .ok (.ireturn, 1) := dk_172 (dk_at dksX0_saves_1 1 rfl rfl)
theorem dX0_saves_26 : decode cX0_saves 26 = .ok (.iload 4, 2) := dk_21 4 (dk_at dksX0_saves_1 2 rfl rfl)
theorem dX0_saves_28 : decode cX0_saves 28 = .ok (.invokestatic 125, 3) := dk_184 0 125 (dk_at dksX0_saves_1 4 rfl rfl)
theorem dX0_saves_31 : decode cX0_saves 31 = .ok (.ifCond .ne 6, 3) := dk_154 0 6 (dk_at dksX0_saves_1 7 rfl rfl)
theorem dX0_saves_34 : decode cX0_saves 34 = .ok (.bipush (-2), 2) := dk_16 254 (dk_at dksX0_saves_1 10 rfl rfl)
theorem dX0_saves_36 : decode cX0_saves 36 = .ok (.ireturn, 1) := dk_172 (dk_at dksX0_saves_1 12 rfl rfl)
theorem dX0_saves_37 : decode cX0_saves 37 = .ok (.aload_n 0, 1) := dk_42 (dk_at dksX0_saves_1 13 rfl rfl)
theorem dX0_saves_38 : decode cX0_saves 38 = .ok (.getfield 28, 3) := dk_180 0 28 (dk_at dksX0_saves_1 14 rfl rfl)
theorem dX0_saves_41 : decode cX0_saves 41 = .ok (.iload_n 1, 1) := dk_27 (dk_at dksX0_saves_1 17 rfl rfl)
theorem dX0_saves_42 : decode cX0_saves 42 = .ok (.invokeinterface 112 2, 5) := by decide +kernel
theorem dX0_saves_47 : decode cX0_saves 47 = .ok (.checkcast 147, 3) := dk_192 0 147 (dk_at dksX0_saves_2 0 rfl rfl)
theorem dX0_saves_50 : decode cX0_saves 50 = .ok (.astore 5, 2) := dk_58 5 (dk_at dksX0_saves_2 3 rfl rfl)
theorem dX0_saves_52 : decode cX0_saves 52 = .ok (.aload 5, 2) := dk_25 5 (dk_at dksX0_saves_2 5 rfl rfl)
theorem dX0_saves_54 : decode cX0_saves 54 = .ok (.invokevirtual 164, 3) := dk_182 0 164 (dk_at dksX0_saves_2 7 rfl rfl)
theorem dX0_saves_57 : decode cX0_saves 57 = .ok (.ifCond .ne 6, 3) := dk_154 0 6 (dk_at dksX0_saves_2 10 rfl rfl)
theorem dX0_saves_60 : decode cX0_saves 60 = .ok (.bipush (-3), 2) := dk_16 253 (dk_at dksX0_saves_2 13 rfl rfl)
theorem dX0_saves_62 : decode cX0_saves 62 = .ok (.ireturn, 1) := dk_172 (dk_at dksX0_saves_2 15 rfl rfl)
theorem dX0_saves_63 : decode cX0_saves 63 = .ok (.aload_n 0, 1) := dk_42 (dk_at dksX0_saves_2 16 rfl rfl)
theorem dX0_saves_64 : decode cX0_saves 64 = .ok (.iconst 0, 1) := dk_3 (dk_at dksX0_saves_2 17 rfl rfl)
theorem dX0_saves_65 : decode cX0_saves 65 = .ok (.invokevirtual 209, 3) := dk_182 0 209 (dk_at dksX0_saves_2 18 rfl rfl)
theorem dX0_saves_68 : decode cX0_saves 68 = .ok (.aload_n 0, 1) := dk_42 (dk_at dksX0_saves_2 21 rfl rfl)
theorem dX0_saves_69 : decode cX0_saves 69 = .ok (.iload_n 2, 1) := dk_28 (dk_at dksX0_saves_2 22 rfl rfl)
theorem dX0_saves_70 : decode cX0_saves 70 = .ok (.iload 4, 2) := dk_21 4 (dk_at dksX0_saves_3 0 rfl rfl)
theorem dX0_saves_72 : decode cX0_saves 72 = .ok (.iconst 0, 1) := dk_3 (dk_at dksX0_saves_3 2 rfl rfl)
theorem dX0_saves_73 : decode cX0_saves 73 = .ok (.invokevirtual 213, 3) := dk_182 0 213 (dk_at dksX0_saves_3 3 rfl rfl)
theorem dX0_saves_76 : decode cX0_saves 76 = .ok (.aload_n 0, 1) := dk_42 (dk_at dksX0_saves_3 6 rfl rfl)
theorem dX0_saves_77 : decode cX0_saves 77 = .ok (.getfield 40, 3) := dk_180 0 40 (dk_at dksX0_saves_3 7 rfl rfl)
theorem dX0_saves_80 : decode cX0_saves 80 = .ok (.iload_n 3, 1) := dk_29 (dk_at dksX0_saves_3 10 rfl rfl)
theorem dX0_saves_81 : decode cX0_saves 81 = .ok (.iaload, 1) := dk_46 (dk_at dksX0_saves_3 11 rfl rfl)
theorem dX0_saves_82 : decode cX0_saves 82 = .ok (.istore 6, 2) := dk_54 6 (dk_at dksX0_saves_3 12 rfl rfl)
theorem dX0_saves_84 : decode cX0_saves 84 = .ok (.aload 5, 2) := dk_25 5 (dk_at dksX0_saves_3 14 rfl rfl)
theorem dX0_saves_86 : decode cX0_saves 86 = .ok (.dup, 1) := dk_89 (dk_at dksX0_saves_3 16 rfl rfl)
theorem dX0_saves_87 : decode cX0_saves 87 = .ok (.getfield 167, 3) := dk_180 0 167 (dk_at dksX0_saves_3 17 rfl rfl)
theorem dX0_saves_90 : decode cX0_saves 90 = .ok (.iconst 1, 1) := dk_4 (dk_at dksX0_saves_3 20 rfl rfl)
theorem dX0_saves_91 : decode cX0_saves 91 = .ok (.iadd, 1) := dk_96 (dk_at dksX0_saves_3 21 rfl rfl)
theorem dX0_saves_92 : decode cX0_saves 92 = .ok (.putfield 167, 3) := dk_181 0 167 (dk_at dksX0_saves_4 0 rfl rfl)
theorem dX0_saves_95 : decode cX0_saves 95 = .ok (.aload_n 0, 1) := dk_42 (dk_at dksX0_saves_4 3 rfl rfl)
theorem dX0_saves_96 : decode cX0_saves 96 = .ok (.aload 5, 2) := dk_25 5 (dk_at dksX0_saves_4 4 rfl rfl)
theorem dX0_saves_98 : decode cX0_saves 98 = .ok (.iconst 0, 1) := dk_3 (dk_at dksX0_saves_4 6 rfl rfl)
theorem dX0_saves_99 : decode cX0_saves 99 = .ok (.invokevirtual 191, 3) := dk_182 0 191 (dk_at dksX0_saves_4 7 rfl rfl)
theorem dX0_saves_102 : decode cX0_saves 102 = .ok (.aload 5, 2) := dk_25 5 (dk_at dksX0_saves_4 10 rfl rfl)
theorem dX0_saves_104 : decode cX0_saves 104 = .ok (.dup, 1) := dk_89 (dk_at dksX0_saves_4 12 rfl rfl)
theorem dX0_saves_105 : decode cX0_saves 105 = .ok (.getfield 167, 3) := dk_180 0 167 (dk_at dksX0_saves_4 13 rfl rfl)
theorem dX0_saves_108 : decode cX0_saves 108 = .ok (.iconst 1, 1) := dk_4 (dk_at dksX0_saves_4 16 rfl rfl)
theorem dX0_saves_109 : decode cX0_saves 109 = .ok (.isub, 1) := dk_100 (dk_at dksX0_saves_4 17 rfl rfl)
theorem dX0_saves_110 : decode cX0_saves 110 = .ok (.putfield 167, 3) := dk_181 0 167 (dk_at dksX0_saves_4 18 rfl rfl)
theorem dX0_saves_113 : decode cX0_saves 113 = .ok (.aload_n 0, 1) := dk_42 (dk_at dksX0_saves_4 21 rfl rfl)
theorem dX0_saves_114 : decode cX0_saves 114 = .ok (.iload_n 2, 1) := dk_28 (dk_at dksX0_saves_4 22 rfl rfl)
theorem dX0_saves_115 : decode cX0_saves 115 = .ok (.iload 4, 2) := dk_21 4 (dk_at dksX0_saves_5 0 rfl rfl)
theorem dX0_saves_117 : decode cX0_saves 117 = .ok (.iconst 0, 1) := dk_3 (dk_at dksX0_saves_5 2 rfl rfl)
theorem dX0_saves_118 : decode cX0_saves 118 = .ok (.invokevirtual 213, 3) := dk_182 0 213 (dk_at dksX0_saves_5 3 rfl rfl)
theorem dX0_saves_121 : decode cX0_saves 121 = .ok (.aload_n 0, 1) := dk_42 (dk_at dksX0_saves_5 6 rfl rfl)
theorem dX0_saves_122 : decode cX0_saves 122 = .ok (.getfield 40, 3) := dk_180 0 40 (dk_at dksX0_saves_5 7 rfl rfl)
theorem dX0_saves_125 : decode cX0_saves 125 = .ok (.iload_n 3, 1) := dk_29 (dk_at dksX0_saves_5 10 rfl rfl)
theorem dX0_saves_126 : decode cX0_saves 126 = .ok (.iaload, 1) := dk_46 (dk_at dksX0_saves_5 11 rfl rfl)
theorem dX0_saves_127 : decode cX0_saves 127 = .ok (.sipush 2001, 3) := dk_17 7 209 (dk_at dksX0_saves_5 12 rfl rfl)
theorem dX0_saves_130 : decode cX0_saves 130 = .ok (.if_icmp .ne 8, 3) := dk_160 0 8 (dk_at dksX0_saves_5 15 rfl rfl)
theorem dX0_saves_133 : decode cX0_saves 133 = .ok (.bipush (-9), 2) := dk_16 247 (dk_at dksX0_saves_5 18 rfl rfl)
theorem dX0_saves_135 : decode cX0_saves 135 = .ok (.goto 12, 3) := dk_167 0 12 (dk_at dksX0_saves_5 20 rfl rfl)
theorem dX0_saves_138 : decode cX0_saves 138 = .ok (.iload 6, 2) := dk_21 6 (dk_at dksX0_saves_6 0 rfl rfl)
theorem dX0_saves_140 : decode cX0_saves 140 = .ok (.aload_n 0, 1) := dk_42 (dk_at dksX0_saves_6 2 rfl rfl)
theorem dX0_saves_141 : decode cX0_saves 141 = .ok (.getfield 40, 3) := dk_180 0 40 (dk_at dksX0_saves_6 3 rfl rfl)
theorem dX0_saves_144 : decode cX0_saves 144 = .ok (.iload_n 3, 1) := dk_29 (dk_at dksX0_saves_6 6 rfl rfl)
theorem dX0_saves_145 : decode cX0_saves 145 = .ok (.iaload, 1) := dk_46 (dk_at dksX0_saves_6 7 rfl rfl)
theorem dX0_saves_146 : decode cX0_saves 146 = .ok (.isub, 1) := dk_100 (dk_at dksX0_saves_6 8 rfl rfl)
theorem dX0_saves_147 : decode cX0_saves 147 = .ok (.ireturn, 1) := dk_172 (dk_at dksX0_saves_6 9 rfl rfl)
abbrev cX0_sheet : ByteArray := prog_1_method_50_code
def yX0_sheet : MethodName := ⟨RX0, "sheet", "(III)I"⟩
def dkwX0_sheet_3 : List UInt8 := [182, 1, 15, 172]
abbrev dktX0_sheet_3 : List UInt8 := dkwX0_sheet_3 ++ []
def dkwX0_sheet_2 : List UInt8 := [180, 0, 57, 27, 187, 0, 55, 89, 28, 29, 184, 1, 6, 183, 1, 10, 83, 4, 172, 58, 4, 42, 7]
abbrev dktX0_sheet_2 : List UInt8 := dkwX0_sheet_2 ++ dktX0_sheet_3
def dkwX0_sheet_1 : List UInt8 := [153, 0, 9, 29, 16, 60, 164, 0, 10, 42, 16, 254, 182, 1, 3, 172, 42, 3, 181, 0, 242, 42]
abbrev dktX0_sheet_1 : List UInt8 := dkwX0_sheet_1 ++ dktX0_sheet_2
def dkwX0_sheet_0 : List UInt8 := [27, 184, 1, 0, 153, 0, 9, 42, 2, 182, 1, 3, 172, 28, 133, 9, 20, 0, 77, 184, 0, 11]
abbrev dktX0_sheet_0 : List UInt8 := dkwX0_sheet_0 ++ dktX0_sheet_1
theorem dksX0_sheet_0 : cX0_sheet.data.toList.drop 0 = dktX0_sheet_0 := by decide +kernel
theorem dksX0_sheet_1 : cX0_sheet.data.toList.drop 22 = dktX0_sheet_1 := dk_seg dksX0_sheet_0 22 rfl rfl
theorem dksX0_sheet_2 : cX0_sheet.data.toList.drop 44 = dktX0_sheet_2 := dk_seg dksX0_sheet_1 22 rfl rfl
theorem dksX0_sheet_3 : cX0_sheet.data.toList.drop 67 = dktX0_sheet_3 := dk_seg dksX0_sheet_2 23 rfl rfl
theorem dX0_sheet_0 : decode cX0_sheet 0 = .ok (.iload_n 1, 1) := dk_27 (dk_at dksX0_sheet_0 0 rfl rfl)
theorem dX0_sheet_1 : decode cX0_sheet 1 = .ok (.invokestatic 256, 3) := dk_184 1 0 (dk_at dksX0_sheet_0 1 rfl rfl)
theorem dX0_sheet_4 : decode cX0_sheet 4 = .ok (.ifCond .eq 9, 3) := dk_153 0 9 (dk_at dksX0_sheet_0 4 rfl rfl)
theorem dX0_sheet_7 : decode cX0_sheet 7 = .ok (.aload_n 0, 1) := dk_42 (dk_at dksX0_sheet_0 7 rfl rfl)
theorem dX0_sheet_8 : decode cX0_sheet 8 = .ok (.iconst (-1), 1) := dk_2 (dk_at dksX0_sheet_0 8 rfl rfl)
theorem dX0_sheet_9 : decode cX0_sheet 9 = .ok (.invokevirtual 259, 3) := dk_182 1 3 (dk_at dksX0_sheet_0 9 rfl rfl)
theorem dX0_sheet_12 : decode cX0_sheet 12 = .ok (.ireturn, 1) := dk_172 (dk_at dksX0_sheet_0 12 rfl rfl)
theorem dX0_sheet_13 : decode cX0_sheet 13 = .ok (.iload_n 2, 1) := dk_28 (dk_at dksX0_sheet_0 13 rfl rfl)
theorem dX0_sheet_14 : decode cX0_sheet 14 = .ok (.i2l, 1) := dk_133 (dk_at dksX0_sheet_0 14 rfl rfl)
theorem dX0_sheet_15 : decode cX0_sheet 15 = .ok (.lconst 0, 1) := dk_9 (dk_at dksX0_sheet_0 15 rfl rfl)
theorem dX0_sheet_16 : decode cX0_sheet 16 = .ok (.ldc2_w 77, 3) := dk_20 0 77 (dk_at dksX0_sheet_0 16 rfl rfl)
theorem dX0_sheet_19 : decode cX0_sheet 19 = .ok (.invokestatic 11, 3) := dk_184 0 11 (dk_at dksX0_sheet_0 19 rfl rfl)
theorem dX0_sheet_22 : decode cX0_sheet 22 = .ok (.ifCond .eq 9, 3) := dk_153 0 9 (dk_at dksX0_sheet_1 0 rfl rfl)
theorem dX0_sheet_25 : decode cX0_sheet 25 = .ok (.iload_n 3, 1) := dk_29 (dk_at dksX0_sheet_1 3 rfl rfl)
theorem dX0_sheet_26 : decode cX0_sheet 26 = .ok (.bipush 60, 2) := dk_16 60 (dk_at dksX0_sheet_1 4 rfl rfl)
theorem dX0_sheet_28 : decode cX0_sheet 28 = .ok (.if_icmp .le 10, 3) := dk_164 0 10 (dk_at dksX0_sheet_1 6 rfl rfl)
theorem dX0_sheet_31 : decode cX0_sheet 31 = .ok (.aload_n 0, 1) := dk_42 (dk_at dksX0_sheet_1 9 rfl rfl)
theorem dX0_sheet_32 : decode cX0_sheet 32 = .ok (.bipush (-2), 2) := dk_16 254 (dk_at dksX0_sheet_1 10 rfl rfl)
theorem dX0_sheet_34 : decode cX0_sheet 34 = .ok (.invokevirtual 259, 3) := dk_182 1 3 (dk_at dksX0_sheet_1 12 rfl rfl)
theorem dX0_sheet_37 : decode cX0_sheet 37 = .ok (.ireturn, 1) := dk_172 (dk_at dksX0_sheet_1 15 rfl rfl)
theorem dX0_sheet_38 : decode cX0_sheet 38 = .ok (.aload_n 0, 1) := dk_42 (dk_at dksX0_sheet_1 16 rfl rfl)
theorem dX0_sheet_39 : decode cX0_sheet 39 = .ok (.iconst 0, 1) := dk_3 (dk_at dksX0_sheet_1 17 rfl rfl)
theorem dX0_sheet_40 : decode cX0_sheet 40 = .ok (.putfield 242, 3) := dk_181 0 242 (dk_at dksX0_sheet_1 18 rfl rfl)
theorem dX0_sheet_43 : decode cX0_sheet 43 = .ok (.aload_n 0, 1) := dk_42 (dk_at dksX0_sheet_1 21 rfl rfl)
theorem dX0_sheet_44 : decode cX0_sheet 44 = .ok (.getfield 57, 3) := dk_180 0 57 (dk_at dksX0_sheet_2 0 rfl rfl)
theorem dX0_sheet_47 : decode cX0_sheet 47 = .ok (.iload_n 1, 1) := dk_27 (dk_at dksX0_sheet_2 3 rfl rfl)
theorem dX0_sheet_48 : decode cX0_sheet 48 = .ok (.new 55, 3) := dk_187 0 55 (dk_at dksX0_sheet_2 4 rfl rfl)
theorem dX0_sheet_51 : decode cX0_sheet 51 = .ok (.dup, 1) := dk_89 (dk_at dksX0_sheet_2 7 rfl rfl)
theorem dX0_sheet_52 : decode cX0_sheet 52 = .ok (.iload_n 2, 1) := dk_28 (dk_at dksX0_sheet_2 8 rfl rfl)
theorem dX0_sheet_53 : decode cX0_sheet 53 = .ok (.iload_n 3, 1) := dk_29 (dk_at dksX0_sheet_2 9 rfl rfl)
theorem dX0_sheet_54 : decode cX0_sheet 54 = .ok (.invokestatic 262, 3) := dk_184 1 6 (dk_at dksX0_sheet_2 10 rfl rfl)
theorem dX0_sheet_57 : decode cX0_sheet 57 = .ok (.invokespecial 266, 3) := dk_183 1 10 (dk_at dksX0_sheet_2 13 rfl rfl)
theorem dX0_sheet_60 : decode cX0_sheet 60 = .ok (.aastore, 1) := dk_83 (dk_at dksX0_sheet_2 16 rfl rfl)
theorem dX0_sheet_61 : decode cX0_sheet 61 = .ok (.iconst 1, 1) := dk_4 (dk_at dksX0_sheet_2 17 rfl rfl)
theorem dX0_sheet_62 : decode cX0_sheet 62 = .ok (.ireturn, 1) := dk_172 (dk_at dksX0_sheet_2 18 rfl rfl)
theorem dX0_sheet_63 : decode cX0_sheet 63 = .ok (.astore 4, 2) := dk_58 4 (dk_at dksX0_sheet_2 19 rfl rfl)
theorem dX0_sheet_65 : decode cX0_sheet 65 = .ok (.aload_n 0, 1) := dk_42 (dk_at dksX0_sheet_2 21 rfl rfl)
theorem dX0_sheet_66 : decode cX0_sheet 66 = .ok (.iconst 4, 1) := dk_7 (dk_at dksX0_sheet_2 22 rfl rfl)
theorem dX0_sheet_67 : decode cX0_sheet 67 = .ok (.invokevirtual 271, 3) := dk_182 1 15 (dk_at dksX0_sheet_3 0 rfl rfl)
theorem dX0_sheet_70 : decode cX0_sheet 70 = .ok (.ireturn, 1) := dk_172 (dk_at dksX0_sheet_3 3 rfl rfl)
abbrev cX0_noSheet : ByteArray := prog_1_method_48_code
def yX0_noSheet : MethodName := ⟨RX0, "noSheet", "(I)Z"⟩
def dkwX0_noSheet_0 : List UInt8 := [26, 133, 9, 20, 0, 250, 184, 0, 11, 154, 0, 7, 4, 167, 0, 4, 3, 172]
abbrev dktX0_noSheet_0 : List UInt8 := dkwX0_noSheet_0 ++ []
theorem dksX0_noSheet_0 : cX0_noSheet.data.toList.drop 0 = dktX0_noSheet_0 := by decide +kernel
theorem dX0_noSheet_0 : decode cX0_noSheet 0 = .ok (.iload_n 0, 1) := dk_26 (dk_at dksX0_noSheet_0 0 rfl rfl)
theorem dX0_noSheet_1 : decode cX0_noSheet 1 = .ok (.i2l, 1) := dk_133 (dk_at dksX0_noSheet_0 1 rfl rfl)
theorem dX0_noSheet_2 : decode cX0_noSheet 2 = .ok (.lconst 0, 1) := dk_9 (dk_at dksX0_noSheet_0 2 rfl rfl)
theorem dX0_noSheet_3 : decode cX0_noSheet 3 = .ok (.ldc2_w 250, 3) := dk_20 0 250 (dk_at dksX0_noSheet_0 3 rfl rfl)
theorem dX0_noSheet_6 : decode cX0_noSheet 6 = .ok (.invokestatic 11, 3) := dk_184 0 11 (dk_at dksX0_noSheet_0 6 rfl rfl)
theorem dX0_noSheet_9 : decode cX0_noSheet 9 = .ok (.ifCond .ne 7, 3) := dk_154 0 7 (dk_at dksX0_noSheet_0 9 rfl rfl)
theorem dX0_noSheet_12 : decode cX0_noSheet 12 = .ok (.iconst 1, 1) := dk_4 (dk_at dksX0_noSheet_0 12 rfl rfl)
theorem dX0_noSheet_13 : decode cX0_noSheet 13 = .ok (.goto 4, 3) := dk_167 0 4 (dk_at dksX0_noSheet_0 13 rfl rfl)
theorem dX0_noSheet_16 : decode cX0_noSheet 16 = .ok (.iconst 0, 1) := dk_3 (dk_at dksX0_noSheet_0 16 rfl rfl)
theorem dX0_noSheet_17 : decode cX0_noSheet 17 = .ok (.ireturn, 1) := dk_172 (dk_at dksX0_noSheet_0 17 rfl rfl)
abbrev cX0_refused : ByteArray := prog_1_method_41_code
def yX0_refused : MethodName := ⟨RX0, "refused", "(I)I"⟩
def dkwX0_refused_0 : List UInt8 := [42, 3, 181, 0, 242, 27, 172]
abbrev dktX0_refused_0 : List UInt8 := dkwX0_refused_0 ++ []
theorem dksX0_refused_0 : cX0_refused.data.toList.drop 0 = dktX0_refused_0 := by decide +kernel
theorem dX0_refused_0 : decode cX0_refused 0 = .ok (.aload_n 0, 1) := dk_42 (dk_at dksX0_refused_0 0 rfl rfl)
theorem dX0_refused_1 : decode cX0_refused 1 = .ok (.iconst 0, 1) := dk_3 (dk_at dksX0_refused_0 1 rfl rfl)
theorem dX0_refused_2 : decode cX0_refused 2 = .ok (.putfield 242, 3) := dk_181 0 242 (dk_at dksX0_refused_0 2 rfl rfl)
theorem dX0_refused_5 : decode cX0_refused 5 = .ok (.iload_n 1, 1) := dk_27 (dk_at dksX0_refused_0 5 rfl rfl)
theorem dX0_refused_6 : decode cX0_refused 6 = .ok (.ireturn, 1) := dk_172 (dk_at dksX0_refused_0 6 rfl rfl)
abbrev cX0_rowOf : ByteArray := prog_1_method_44_code
def yX0_rowOf : MethodName := ⟨RX0, "rowOf", "(II)Ljava/lang/Object;"⟩
def dkwX0_rowOf_1 : List UInt8 := [176]
abbrev dktX0_rowOf_1 : List UInt8 := dkwX0_rowOf_1 ++ []
def dkwX0_rowOf_0 : List UInt8 := [26, 154, 0, 9, 27, 188, 8, 167, 0, 17, 26, 4, 160, 0, 9, 27, 188, 9, 167, 0, 6, 27, 188, 10]
abbrev dktX0_rowOf_0 : List UInt8 := dkwX0_rowOf_0 ++ dktX0_rowOf_1
theorem dksX0_rowOf_0 : cX0_rowOf.data.toList.drop 0 = dktX0_rowOf_0 := by decide +kernel
theorem dksX0_rowOf_1 : cX0_rowOf.data.toList.drop 24 = dktX0_rowOf_1 := dk_seg dksX0_rowOf_0 24 rfl rfl
theorem dX0_rowOf_0 : decode cX0_rowOf 0 = .ok (.iload_n 0, 1) := dk_26 (dk_at dksX0_rowOf_0 0 rfl rfl)
theorem dX0_rowOf_1 : decode cX0_rowOf 1 = .ok (.ifCond .ne 9, 3) := dk_154 0 9 (dk_at dksX0_rowOf_0 1 rfl rfl)
theorem dX0_rowOf_4 : decode cX0_rowOf 4 = .ok (.iload_n 1, 1) := dk_27 (dk_at dksX0_rowOf_0 4 rfl rfl)
theorem dX0_rowOf_5 : decode cX0_rowOf 5 = .ok (.newarray .byte, 2) := dk_188_8 (dk_at dksX0_rowOf_0 5 rfl rfl)
theorem dX0_rowOf_7 : decode cX0_rowOf 7 = .ok (.goto 17, 3) := dk_167 0 17 (dk_at dksX0_rowOf_0 7 rfl rfl)
theorem dX0_rowOf_10 : decode cX0_rowOf 10 = .ok (.iload_n 0, 1) := dk_26 (dk_at dksX0_rowOf_0 10 rfl rfl)
theorem dX0_rowOf_11 : decode cX0_rowOf 11 = .ok (.iconst 1, 1) := dk_4 (dk_at dksX0_rowOf_0 11 rfl rfl)
theorem dX0_rowOf_12 : decode cX0_rowOf 12 = .ok (.if_icmp .ne 9, 3) := dk_160 0 9 (dk_at dksX0_rowOf_0 12 rfl rfl)
theorem dX0_rowOf_15 : decode cX0_rowOf 15 = .ok (.iload_n 1, 1) := dk_27 (dk_at dksX0_rowOf_0 15 rfl rfl)
theorem dX0_rowOf_16 : decode cX0_rowOf 16 = .ok (.newarray .short, 2) := dk_188_9 (dk_at dksX0_rowOf_0 16 rfl rfl)
theorem dX0_rowOf_18 : decode cX0_rowOf 18 = .ok (.goto 6, 3) := dk_167 0 6 (dk_at dksX0_rowOf_0 18 rfl rfl)
theorem dX0_rowOf_21 : decode cX0_rowOf 21 = .ok (.iload_n 1, 1) := dk_27 (dk_at dksX0_rowOf_0 21 rfl rfl)
theorem dX0_rowOf_22 : decode cX0_rowOf 22 = .ok (.newarray .int, 2) := dk_188_10 (dk_at dksX0_rowOf_0 22 rfl rfl)
theorem dX0_rowOf_24 : decode cX0_rowOf 24 = .ok (.areturn, 1) := dk_176 (dk_at dksX0_rowOf_1 0 rfl rfl)
abbrev cX0_fails : ByteArray := prog_1_method_42_code
def yX0_fails : MethodName := ⟨RX0, "fails", "(I)I"⟩
def dkwX0_fails_0 : List UInt8 := [42, 27, 181, 0, 242, 16, 246, 27, 100, 172]
abbrev dktX0_fails_0 : List UInt8 := dkwX0_fails_0 ++ []
theorem dksX0_fails_0 : cX0_fails.data.toList.drop 0 = dktX0_fails_0 := by decide +kernel
theorem dX0_fails_0 : decode cX0_fails 0 = .ok (.aload_n 0, 1) := dk_42 (dk_at dksX0_fails_0 0 rfl rfl)
theorem dX0_fails_1 : decode cX0_fails 1 = .ok (.iload_n 1, 1) := dk_27 (dk_at dksX0_fails_0 1 rfl rfl)
theorem dX0_fails_2 : decode cX0_fails 2 = .ok (.putfield 242, 3) := dk_181 0 242 (dk_at dksX0_fails_0 2 rfl rfl)
theorem dX0_fails_5 : decode cX0_fails 5 = .ok (.bipush (-10), 2) := dk_16 246 (dk_at dksX0_fails_0 5 rfl rfl)
theorem dX0_fails_7 : decode cX0_fails 7 = .ok (.iload_n 1, 1) := dk_27 (dk_at dksX0_fails_0 7 rfl rfl)
theorem dX0_fails_8 : decode cX0_fails 8 = .ok (.isub, 1) := dk_100 (dk_at dksX0_fails_0 8 rfl rfl)
theorem dX0_fails_9 : decode cX0_fails 9 = .ok (.ireturn, 1) := dk_172 (dk_at dksX0_fails_0 9 rfl rfl)
abbrev cX0_lose : ByteArray := prog_1_method_51_code
def yX0_lose : MethodName := ⟨RX0, "lose", "(I)I"⟩
def dkwX0_lose_1 : List UInt8 := [42, 180, 0, 57, 27, 1, 83, 28, 172]
abbrev dktX0_lose_1 : List UInt8 := dkwX0_lose_1 ++ []
def dkwX0_lose_0 : List UInt8 := [27, 184, 1, 0, 153, 0, 5, 2, 172, 42, 180, 0, 57, 27, 50, 199, 0, 7, 3, 167, 0, 4, 4, 61]
abbrev dktX0_lose_0 : List UInt8 := dkwX0_lose_0 ++ dktX0_lose_1
theorem dksX0_lose_0 : cX0_lose.data.toList.drop 0 = dktX0_lose_0 := by decide +kernel
theorem dksX0_lose_1 : cX0_lose.data.toList.drop 24 = dktX0_lose_1 := dk_seg dksX0_lose_0 24 rfl rfl
theorem dX0_lose_0 : decode cX0_lose 0 = .ok (.iload_n 1, 1) := dk_27 (dk_at dksX0_lose_0 0 rfl rfl)
theorem dX0_lose_1 : decode cX0_lose 1 = .ok (.invokestatic 256, 3) := dk_184 1 0 (dk_at dksX0_lose_0 1 rfl rfl)
theorem dX0_lose_4 : decode cX0_lose 4 = .ok (.ifCond .eq 5, 3) := dk_153 0 5 (dk_at dksX0_lose_0 4 rfl rfl)
theorem dX0_lose_7 : decode cX0_lose 7 = .ok (.iconst (-1), 1) := dk_2 (dk_at dksX0_lose_0 7 rfl rfl)
theorem dX0_lose_8 : decode cX0_lose 8 = .ok (.ireturn, 1) := dk_172 (dk_at dksX0_lose_0 8 rfl rfl)
theorem dX0_lose_9 : decode cX0_lose 9 = .ok (.aload_n 0, 1) := dk_42 (dk_at dksX0_lose_0 9 rfl rfl)
theorem dX0_lose_10 : decode cX0_lose 10 = .ok (.getfield 57, 3) := dk_180 0 57 (dk_at dksX0_lose_0 10 rfl rfl)
theorem dX0_lose_13 : decode cX0_lose 13 = .ok (.iload_n 1, 1) := dk_27 (dk_at dksX0_lose_0 13 rfl rfl)
theorem dX0_lose_14 : decode cX0_lose 14 = .ok (.aaload, 1) := dk_50 (dk_at dksX0_lose_0 14 rfl rfl)
theorem dX0_lose_15 : decode cX0_lose 15 = .ok (.ifnonnull 7, 3) := dk_199 0 7 (dk_at dksX0_lose_0 15 rfl rfl)
theorem dX0_lose_18 : decode cX0_lose 18 = .ok (.iconst 0, 1) := dk_3 (dk_at dksX0_lose_0 18 rfl rfl)
theorem dX0_lose_19 : decode cX0_lose 19 = .ok (.goto 4, 3) := dk_167 0 4 (dk_at dksX0_lose_0 19 rfl rfl)
theorem dX0_lose_22 : decode cX0_lose 22 = .ok (.iconst 1, 1) := dk_4 (dk_at dksX0_lose_0 22 rfl rfl)
theorem dX0_lose_23 : decode cX0_lose 23 = .ok (.istore_n 2, 1) := dk_61 (dk_at dksX0_lose_0 23 rfl rfl)
theorem dX0_lose_24 : decode cX0_lose 24 = .ok (.aload_n 0, 1) := dk_42 (dk_at dksX0_lose_1 0 rfl rfl)
theorem dX0_lose_25 : decode cX0_lose 25 = .ok (.getfield 57, 3) := dk_180 0 57 (dk_at dksX0_lose_1 1 rfl rfl)
theorem dX0_lose_28 : decode cX0_lose 28 = .ok (.iload_n 1, 1) := dk_27 (dk_at dksX0_lose_1 4 rfl rfl)
theorem dX0_lose_29 : decode cX0_lose 29 = .ok (.aconst_null, 1) := dk_1 (dk_at dksX0_lose_1 5 rfl rfl)
theorem dX0_lose_30 : decode cX0_lose 30 = .ok (.aastore, 1) := dk_83 (dk_at dksX0_lose_1 6 rfl rfl)
theorem dX0_lose_31 : decode cX0_lose 31 = .ok (.iload_n 2, 1) := dk_28 (dk_at dksX0_lose_1 7 rfl rfl)
theorem dX0_lose_32 : decode cX0_lose 32 = .ok (.ireturn, 1) := dk_172 (dk_at dksX0_lose_1 8 rfl rfl)
abbrev cX0_put : ByteArray := prog_1_method_52_code
def yX0_put : MethodName := ⟨RX0, "put", "(III)I"⟩
def dkwX0_put_2 : List UInt8 := [182, 1, 15, 172]
abbrev dktX0_put_2 : List UInt8 := dkwX0_put_2 ++ []
def dkwX0_put_1 : List UInt8 := [180, 0, 252, 28, 29, 184, 1, 18, 4, 172, 58, 4, 42, 4, 182, 1, 15, 172, 58, 4, 42, 6]
abbrev dktX0_put_1 : List UInt8 := dkwX0_put_1 ++ dktX0_put_2
def dkwX0_put_0 : List UInt8 := [27, 184, 1, 0, 153, 0, 9, 42, 2, 182, 1, 3, 172, 42, 3, 181, 0, 242, 42, 180, 0, 57, 27, 50]
abbrev dktX0_put_0 : List UInt8 := dkwX0_put_0 ++ dktX0_put_1
theorem dksX0_put_0 : cX0_put.data.toList.drop 0 = dktX0_put_0 := by decide +kernel
theorem dksX0_put_1 : cX0_put.data.toList.drop 24 = dktX0_put_1 := dk_seg dksX0_put_0 24 rfl rfl
theorem dksX0_put_2 : cX0_put.data.toList.drop 46 = dktX0_put_2 := dk_seg dksX0_put_1 22 rfl rfl
theorem dX0_put_0 : decode cX0_put 0 = .ok (.iload_n 1, 1) := dk_27 (dk_at dksX0_put_0 0 rfl rfl)
theorem dX0_put_1 : decode cX0_put 1 = .ok (.invokestatic 256, 3) := dk_184 1 0 (dk_at dksX0_put_0 1 rfl rfl)
theorem dX0_put_4 : decode cX0_put 4 = .ok (.ifCond .eq 9, 3) := dk_153 0 9 (dk_at dksX0_put_0 4 rfl rfl)
theorem dX0_put_7 : decode cX0_put 7 = .ok (.aload_n 0, 1) := dk_42 (dk_at dksX0_put_0 7 rfl rfl)
theorem dX0_put_8 : decode cX0_put 8 = .ok (.iconst (-1), 1) := dk_2 (dk_at dksX0_put_0 8 rfl rfl)
theorem dX0_put_9 : decode cX0_put 9 = .ok (.invokevirtual 259, 3) := dk_182 1 3 (dk_at dksX0_put_0 9 rfl rfl)
theorem dX0_put_12 : decode cX0_put 12 = .ok (.ireturn, 1) := dk_172 (dk_at dksX0_put_0 12 rfl rfl)
theorem dX0_put_13 : decode cX0_put 13 = .ok (.aload_n 0, 1) := dk_42 (dk_at dksX0_put_0 13 rfl rfl)
theorem dX0_put_14 : decode cX0_put 14 = .ok (.iconst 0, 1) := dk_3 (dk_at dksX0_put_0 14 rfl rfl)
theorem dX0_put_15 : decode cX0_put 15 = .ok (.putfield 242, 3) := dk_181 0 242 (dk_at dksX0_put_0 15 rfl rfl)
theorem dX0_put_18 : decode cX0_put 18 = .ok (.aload_n 0, 1) := dk_42 (dk_at dksX0_put_0 18 rfl rfl)
theorem dX0_put_19 : decode cX0_put 19 = .ok (.getfield 57, 3) := dk_180 0 57 (dk_at dksX0_put_0 19 rfl rfl)
theorem dX0_put_22 : decode cX0_put 22 = .ok (.iload_n 1, 1) := dk_27 (dk_at dksX0_put_0 22 rfl rfl)
theorem dX0_put_23 : decode cX0_put 23 = .ok (.aaload, 1) := dk_50 (dk_at dksX0_put_0 23 rfl rfl)
theorem dX0_put_24 : decode cX0_put 24 = .ok (.getfield 252, 3) := dk_180 0 252 (dk_at dksX0_put_1 0 rfl rfl)
theorem dX0_put_27 : decode cX0_put 27 = .ok (.iload_n 2, 1) := dk_28 (dk_at dksX0_put_1 3 rfl rfl)
theorem dX0_put_28 : decode cX0_put 28 = .ok (.iload_n 3, 1) := dk_29 (dk_at dksX0_put_1 4 rfl rfl)
theorem dX0_put_29 : decode cX0_put 29 = .ok (.invokestatic 274, 3) := dk_184 1 18 (dk_at dksX0_put_1 5 rfl rfl)
theorem dX0_put_32 : decode cX0_put 32 = .ok (.iconst 1, 1) := dk_4 (dk_at dksX0_put_1 8 rfl rfl)
theorem dX0_put_33 : decode cX0_put 33 = .ok (.ireturn, 1) := dk_172 (dk_at dksX0_put_1 9 rfl rfl)
theorem dX0_put_34 : decode cX0_put 34 = .ok (.astore 4, 2) := dk_58 4 (dk_at dksX0_put_1 10 rfl rfl)
theorem dX0_put_36 : decode cX0_put 36 = .ok (.aload_n 0, 1) := dk_42 (dk_at dksX0_put_1 12 rfl rfl)
theorem dX0_put_37 : decode cX0_put 37 = .ok (.iconst 1, 1) := dk_4 (dk_at dksX0_put_1 13 rfl rfl)
theorem dX0_put_38 : decode cX0_put 38 = .ok (.invokevirtual 271, 3) := dk_182 1 15 (dk_at dksX0_put_1 14 rfl rfl)
theorem dX0_put_41 : decode cX0_put 41 = .ok (.ireturn, 1) := dk_172 (dk_at dksX0_put_1 17 rfl rfl)
theorem dX0_put_42 : decode cX0_put 42 = .ok (.astore 4, 2) := dk_58 4 (dk_at dksX0_put_1 18 rfl rfl)
theorem dX0_put_44 : decode cX0_put 44 = .ok (.aload_n 0, 1) := dk_42 (dk_at dksX0_put_1 20 rfl rfl)
theorem dX0_put_45 : decode cX0_put 45 = .ok (.iconst 3, 1) := dk_6 (dk_at dksX0_put_1 21 rfl rfl)
theorem dX0_put_46 : decode cX0_put 46 = .ok (.invokevirtual 271, 3) := dk_182 1 15 (dk_at dksX0_put_2 0 rfl rfl)
theorem dX0_put_49 : decode cX0_put 49 = .ok (.ireturn, 1) := dk_172 (dk_at dksX0_put_2 3 rfl rfl)
abbrev cX0_setIn : ByteArray := prog_1_method_47_code
def yX0_setIn : MethodName := ⟨RX0, "setIn", "(Ljava/lang/Object;II)V"⟩
def dkwX0_setIn_1 : List UInt8 := [153, 0, 14, 42, 192, 0, 247, 27, 28, 147, 86, 167, 0, 10, 42, 192, 0, 249, 27, 28, 79, 177]
abbrev dktX0_setIn_1 : List UInt8 := dkwX0_setIn_1 ++ []
def dkwX0_setIn_0 : List UInt8 := [42, 193, 0, 245, 153, 0, 14, 42, 192, 0, 245, 27, 28, 145, 84, 167, 0, 28, 42, 193, 0, 247]
abbrev dktX0_setIn_0 : List UInt8 := dkwX0_setIn_0 ++ dktX0_setIn_1
theorem dksX0_setIn_0 : cX0_setIn.data.toList.drop 0 = dktX0_setIn_0 := by decide +kernel
theorem dksX0_setIn_1 : cX0_setIn.data.toList.drop 22 = dktX0_setIn_1 := dk_seg dksX0_setIn_0 22 rfl rfl
theorem dX0_setIn_0 : decode cX0_setIn 0 = .ok (.aload_n 0, 1) := dk_42 (dk_at dksX0_setIn_0 0 rfl rfl)
theorem dX0_setIn_1 : decode cX0_setIn 1 = .ok (.instanceof 245, 3) := dk_193 0 245 (dk_at dksX0_setIn_0 1 rfl rfl)
theorem dX0_setIn_4 : decode cX0_setIn 4 = .ok (.ifCond .eq 14, 3) := dk_153 0 14 (dk_at dksX0_setIn_0 4 rfl rfl)
theorem dX0_setIn_7 : decode cX0_setIn 7 = .ok (.aload_n 0, 1) := dk_42 (dk_at dksX0_setIn_0 7 rfl rfl)
theorem dX0_setIn_8 : decode cX0_setIn 8 = .ok (.checkcast 245, 3) := dk_192 0 245 (dk_at dksX0_setIn_0 8 rfl rfl)
theorem dX0_setIn_11 : decode cX0_setIn 11 = .ok (.iload_n 1, 1) := dk_27 (dk_at dksX0_setIn_0 11 rfl rfl)
theorem dX0_setIn_12 : decode cX0_setIn 12 = .ok (.iload_n 2, 1) := dk_28 (dk_at dksX0_setIn_0 12 rfl rfl)
theorem dX0_setIn_13 : decode cX0_setIn 13 = .ok (.i2b, 1) := dk_145 (dk_at dksX0_setIn_0 13 rfl rfl)
theorem dX0_setIn_14 : decode cX0_setIn 14 = .ok (.bastore, 1) := dk_84 (dk_at dksX0_setIn_0 14 rfl rfl)
theorem dX0_setIn_15 : decode cX0_setIn 15 = .ok (.goto 28, 3) := dk_167 0 28 (dk_at dksX0_setIn_0 15 rfl rfl)
theorem dX0_setIn_18 : decode cX0_setIn 18 = .ok (.aload_n 0, 1) := dk_42 (dk_at dksX0_setIn_0 18 rfl rfl)
theorem dX0_setIn_19 : decode cX0_setIn 19 = .ok (.instanceof 247, 3) := dk_193 0 247 (dk_at dksX0_setIn_0 19 rfl rfl)
theorem dX0_setIn_22 : decode cX0_setIn 22 = .ok (.ifCond .eq 14, 3) := dk_153 0 14 (dk_at dksX0_setIn_1 0 rfl rfl)
theorem dX0_setIn_25 : decode cX0_setIn 25 = .ok (.aload_n 0, 1) := dk_42 (dk_at dksX0_setIn_1 3 rfl rfl)
theorem dX0_setIn_26 : decode cX0_setIn 26 = .ok (.checkcast 247, 3) := dk_192 0 247 (dk_at dksX0_setIn_1 4 rfl rfl)
theorem dX0_setIn_29 : decode cX0_setIn 29 = .ok (.iload_n 1, 1) := dk_27 (dk_at dksX0_setIn_1 7 rfl rfl)
theorem dX0_setIn_30 : decode cX0_setIn 30 = .ok (.iload_n 2, 1) := dk_28 (dk_at dksX0_setIn_1 8 rfl rfl)
theorem dX0_setIn_31 : decode cX0_setIn 31 = .ok (.i2s, 1) := dk_147 (dk_at dksX0_setIn_1 9 rfl rfl)
theorem dX0_setIn_32 : decode cX0_setIn 32 = .ok (.sastore, 1) := dk_86 (dk_at dksX0_setIn_1 10 rfl rfl)
theorem dX0_setIn_33 : decode cX0_setIn 33 = .ok (.goto 10, 3) := dk_167 0 10 (dk_at dksX0_setIn_1 11 rfl rfl)
theorem dX0_setIn_36 : decode cX0_setIn 36 = .ok (.aload_n 0, 1) := dk_42 (dk_at dksX0_setIn_1 14 rfl rfl)
theorem dX0_setIn_37 : decode cX0_setIn 37 = .ok (.checkcast 249, 3) := dk_192 0 249 (dk_at dksX0_setIn_1 15 rfl rfl)
theorem dX0_setIn_40 : decode cX0_setIn 40 = .ok (.iload_n 1, 1) := dk_27 (dk_at dksX0_setIn_1 18 rfl rfl)
theorem dX0_setIn_41 : decode cX0_setIn 41 = .ok (.iload_n 2, 1) := dk_28 (dk_at dksX0_setIn_1 19 rfl rfl)
theorem dX0_setIn_42 : decode cX0_setIn 42 = .ok (.iastore, 1) := dk_79 (dk_at dksX0_setIn_1 20 rfl rfl)
theorem dX0_setIn_43 : decode cX0_setIn 43 = .ok (.return_, 1) := dk_177 (dk_at dksX0_setIn_1 21 rfl rfl)
abbrev cX0_cell : ByteArray := prog_1_method_53_code
def yX0_cell : MethodName := ⟨RX0, "cell", "(III)J"⟩
def dkwX0_cell_2 : List UInt8 := [58, 4, 42, 5, 182, 1, 33, 173, 58, 4, 42, 6, 182, 1, 33, 173]
abbrev dktX0_cell_2 : List UInt8 := dkwX0_cell_2 ++ []
def dkwX0_cell_1 : List UInt8 := [20, 0, 179, 173, 42, 27, 182, 1, 26, 29, 28, 184, 1, 29, 133, 173, 58, 4, 42, 4, 182, 1, 33, 173]
abbrev dktX0_cell_1 : List UInt8 := dkwX0_cell_1 ++ dktX0_cell_2
def dkwX0_cell_0 : List UInt8 := [42, 3, 181, 0, 242, 27, 184, 1, 0, 154, 0, 15, 29, 133, 9, 20, 0, 77, 184, 0, 11, 154, 0, 7]
abbrev dktX0_cell_0 : List UInt8 := dkwX0_cell_0 ++ dktX0_cell_1
theorem dksX0_cell_0 : cX0_cell.data.toList.drop 0 = dktX0_cell_0 := by decide +kernel
theorem dksX0_cell_1 : cX0_cell.data.toList.drop 24 = dktX0_cell_1 := dk_seg dksX0_cell_0 24 rfl rfl
theorem dksX0_cell_2 : cX0_cell.data.toList.drop 48 = dktX0_cell_2 := dk_seg dksX0_cell_1 24 rfl rfl
theorem dX0_cell_0 : decode cX0_cell 0 = .ok (.aload_n 0, 1) := dk_42 (dk_at dksX0_cell_0 0 rfl rfl)
theorem dX0_cell_1 : decode cX0_cell 1 = .ok (.iconst 0, 1) := dk_3 (dk_at dksX0_cell_0 1 rfl rfl)
theorem dX0_cell_2 : decode cX0_cell 2 = .ok (.putfield 242, 3) := dk_181 0 242 (dk_at dksX0_cell_0 2 rfl rfl)
theorem dX0_cell_5 : decode cX0_cell 5 = .ok (.iload_n 1, 1) := dk_27 (dk_at dksX0_cell_0 5 rfl rfl)
theorem dX0_cell_6 : decode cX0_cell 6 = .ok (.invokestatic 256, 3) := dk_184 1 0 (dk_at dksX0_cell_0 6 rfl rfl)
theorem dX0_cell_9 : decode cX0_cell 9 = .ok (.ifCond .ne 15, 3) := dk_154 0 15 (dk_at dksX0_cell_0 9 rfl rfl)
theorem dX0_cell_12 : decode cX0_cell 12 = .ok (.iload_n 3, 1) := dk_29 (dk_at dksX0_cell_0 12 rfl rfl)
theorem dX0_cell_13 : decode cX0_cell 13 = .ok (.i2l, 1) := dk_133 (dk_at dksX0_cell_0 13 rfl rfl)
theorem dX0_cell_14 : decode cX0_cell 14 = .ok (.lconst 0, 1) := dk_9 (dk_at dksX0_cell_0 14 rfl rfl)
theorem dX0_cell_15 : decode cX0_cell 15 = .ok (.ldc2_w 77, 3) := dk_20 0 77 (dk_at dksX0_cell_0 15 rfl rfl)
theorem dX0_cell_18 : decode cX0_cell 18 = .ok (.invokestatic 11, 3) := dk_184 0 11 (dk_at dksX0_cell_0 18 rfl rfl)
theorem dX0_cell_21 : decode cX0_cell 21 = .ok (.ifCond .ne 7, 3) := dk_154 0 7 (dk_at dksX0_cell_0 21 rfl rfl)
theorem dX0_cell_24 : decode cX0_cell 24 = .ok (.ldc2_w 179, 3) := dk_20 0 179 (dk_at dksX0_cell_1 0 rfl rfl)
theorem dX0_cell_27 : decode cX0_cell 27 = .ok (.lreturn, 1) := dk_173 (dk_at dksX0_cell_1 3 rfl rfl)
theorem dX0_cell_28 : decode cX0_cell 28 = .ok (.aload_n 0, 1) := dk_42 (dk_at dksX0_cell_1 4 rfl rfl)
theorem dX0_cell_29 : decode cX0_cell 29 = .ok (.iload_n 1, 1) := dk_27 (dk_at dksX0_cell_1 5 rfl rfl)
theorem dX0_cell_30 : decode cX0_cell 30 = .ok (.invokevirtual 282, 3) := dk_182 1 26 (dk_at dksX0_cell_1 6 rfl rfl)
theorem dX0_cell_33 : decode cX0_cell 33 = .ok (.iload_n 3, 1) := dk_29 (dk_at dksX0_cell_1 9 rfl rfl)
theorem dX0_cell_34 : decode cX0_cell 34 = .ok (.iload_n 2, 1) := dk_28 (dk_at dksX0_cell_1 10 rfl rfl)
theorem dX0_cell_35 : decode cX0_cell 35 = .ok (.invokestatic 285, 3) := dk_184 1 29 (dk_at dksX0_cell_1 11 rfl rfl)
theorem dX0_cell_38 : decode cX0_cell 38 = .ok (.i2l, 1) := dk_133 (dk_at dksX0_cell_1 14 rfl rfl)
theorem dX0_cell_39 : decode cX0_cell 39 = .ok (.lreturn, 1) := dk_173 (dk_at dksX0_cell_1 15 rfl rfl)
theorem dX0_cell_40 : decode cX0_cell 40 = .ok (.astore 4, 2) := dk_58 4 (dk_at dksX0_cell_1 16 rfl rfl)
theorem dX0_cell_42 : decode cX0_cell 42 = .ok (.aload_n 0, 1) := dk_42 (dk_at dksX0_cell_1 18 rfl rfl)
theorem dX0_cell_43 : decode cX0_cell 43 = .ok (.iconst 1, 1) := dk_4 (dk_at dksX0_cell_1 19 rfl rfl)
theorem dX0_cell_44 : decode cX0_cell 44 = .ok (.invokevirtual 289, 3) := dk_182 1 33 (dk_at dksX0_cell_1 20 rfl rfl)
theorem dX0_cell_47 : decode cX0_cell 47 = .ok (.lreturn, 1) := dk_173 (dk_at dksX0_cell_1 23 rfl rfl)
theorem dX0_cell_48 : decode cX0_cell 48 = .ok (.astore 4, 2) := dk_58 4 (dk_at dksX0_cell_2 0 rfl rfl)
theorem dX0_cell_50 : decode cX0_cell 50 = .ok (.aload_n 0, 1) := dk_42 (dk_at dksX0_cell_2 2 rfl rfl)
theorem dX0_cell_51 : decode cX0_cell 51 = .ok (.iconst 2, 1) := dk_5 (dk_at dksX0_cell_2 3 rfl rfl)
theorem dX0_cell_52 : decode cX0_cell 52 = .ok (.invokevirtual 289, 3) := dk_182 1 33 (dk_at dksX0_cell_2 4 rfl rfl)
theorem dX0_cell_55 : decode cX0_cell 55 = .ok (.lreturn, 1) := dk_173 (dk_at dksX0_cell_2 7 rfl rfl)
theorem dX0_cell_56 : decode cX0_cell 56 = .ok (.astore 4, 2) := dk_58 4 (dk_at dksX0_cell_2 8 rfl rfl)
theorem dX0_cell_58 : decode cX0_cell 58 = .ok (.aload_n 0, 1) := dk_42 (dk_at dksX0_cell_2 10 rfl rfl)
theorem dX0_cell_59 : decode cX0_cell 59 = .ok (.iconst 3, 1) := dk_6 (dk_at dksX0_cell_2 11 rfl rfl)
theorem dX0_cell_60 : decode cX0_cell 60 = .ok (.invokevirtual 289, 3) := dk_182 1 33 (dk_at dksX0_cell_2 12 rfl rfl)
theorem dX0_cell_63 : decode cX0_cell 63 = .ok (.lreturn, 1) := dk_173 (dk_at dksX0_cell_2 15 rfl rfl)
abbrev cX0_rowIn : ByteArray := prog_1_method_49_code
def yX0_rowIn : MethodName := ⟨RX0, "rowIn", "(I)Ljava/lang/Object;"⟩
def dkwX0_rowIn_0 : List UInt8 := [42, 180, 0, 57, 27, 50, 199, 0, 7, 1, 167, 0, 12, 42, 180, 0, 57, 27, 50, 180, 0, 252, 176]
abbrev dktX0_rowIn_0 : List UInt8 := dkwX0_rowIn_0 ++ []
theorem dksX0_rowIn_0 : cX0_rowIn.data.toList.drop 0 = dktX0_rowIn_0 := by decide +kernel
theorem dX0_rowIn_0 : decode cX0_rowIn 0 = .ok (.aload_n 0, 1) := dk_42 (dk_at dksX0_rowIn_0 0 rfl rfl)
theorem dX0_rowIn_1 : decode cX0_rowIn 1 = .ok (.getfield 57, 3) := dk_180 0 57 (dk_at dksX0_rowIn_0 1 rfl rfl)
theorem dX0_rowIn_4 : decode cX0_rowIn 4 = .ok (.iload_n 1, 1) := dk_27 (dk_at dksX0_rowIn_0 4 rfl rfl)
theorem dX0_rowIn_5 : decode cX0_rowIn 5 = .ok (.aaload, 1) := dk_50 (dk_at dksX0_rowIn_0 5 rfl rfl)
theorem dX0_rowIn_6 : decode cX0_rowIn 6 = .ok (.ifnonnull 7, 3) := dk_199 0 7 (dk_at dksX0_rowIn_0 6 rfl rfl)
theorem dX0_rowIn_9 : decode cX0_rowIn 9 = .ok (.aconst_null, 1) := dk_1 (dk_at dksX0_rowIn_0 9 rfl rfl)
theorem dX0_rowIn_10 : decode cX0_rowIn 10 = .ok (.goto 12, 3) := dk_167 0 12 (dk_at dksX0_rowIn_0 10 rfl rfl)
theorem dX0_rowIn_13 : decode cX0_rowIn 13 = .ok (.aload_n 0, 1) := dk_42 (dk_at dksX0_rowIn_0 13 rfl rfl)
theorem dX0_rowIn_14 : decode cX0_rowIn 14 = .ok (.getfield 57, 3) := dk_180 0 57 (dk_at dksX0_rowIn_0 14 rfl rfl)
theorem dX0_rowIn_17 : decode cX0_rowIn 17 = .ok (.iload_n 1, 1) := dk_27 (dk_at dksX0_rowIn_0 17 rfl rfl)
theorem dX0_rowIn_18 : decode cX0_rowIn 18 = .ok (.aaload, 1) := dk_50 (dk_at dksX0_rowIn_0 18 rfl rfl)
theorem dX0_rowIn_19 : decode cX0_rowIn 19 = .ok (.getfield 252, 3) := dk_180 0 252 (dk_at dksX0_rowIn_0 19 rfl rfl)
theorem dX0_rowIn_22 : decode cX0_rowIn 22 = .ok (.areturn, 1) := dk_176 (dk_at dksX0_rowIn_0 22 rfl rfl)
abbrev cX0_cellOf : ByteArray := prog_1_method_45_code
def yX0_cellOf : MethodName := ⟨RX0, "cellOf", "(Ljava/lang/Object;II)I"⟩
def dkwX0_cellOf_1 : List UInt8 := [167, 0, 9, 42, 192, 0, 249, 28, 46, 172]
abbrev dktX0_cellOf_1 : List UInt8 := dkwX0_cellOf_1 ++ []
def dkwX0_cellOf_0 : List UInt8 := [27, 154, 0, 12, 42, 192, 0, 245, 28, 51, 167, 0, 23, 27, 4, 160, 0, 12, 42, 192, 0, 247, 28, 53]
abbrev dktX0_cellOf_0 : List UInt8 := dkwX0_cellOf_0 ++ dktX0_cellOf_1
theorem dksX0_cellOf_0 : cX0_cellOf.data.toList.drop 0 = dktX0_cellOf_0 := by decide +kernel
theorem dksX0_cellOf_1 : cX0_cellOf.data.toList.drop 24 = dktX0_cellOf_1 := dk_seg dksX0_cellOf_0 24 rfl rfl
theorem dX0_cellOf_0 : decode cX0_cellOf 0 = .ok (.iload_n 1, 1) := dk_27 (dk_at dksX0_cellOf_0 0 rfl rfl)
theorem dX0_cellOf_1 : decode cX0_cellOf 1 = .ok (.ifCond .ne 12, 3) := dk_154 0 12 (dk_at dksX0_cellOf_0 1 rfl rfl)
theorem dX0_cellOf_4 : decode cX0_cellOf 4 = .ok (.aload_n 0, 1) := dk_42 (dk_at dksX0_cellOf_0 4 rfl rfl)
theorem dX0_cellOf_5 : decode cX0_cellOf 5 = .ok (.checkcast 245, 3) := dk_192 0 245 (dk_at dksX0_cellOf_0 5 rfl rfl)
theorem dX0_cellOf_8 : decode cX0_cellOf 8 = .ok (.iload_n 2, 1) := dk_28 (dk_at dksX0_cellOf_0 8 rfl rfl)
theorem dX0_cellOf_9 : decode cX0_cellOf 9 = .ok (.baload, 1) := dk_51 (dk_at dksX0_cellOf_0 9 rfl rfl)
theorem dX0_cellOf_10 : decode cX0_cellOf 10 = .ok (.goto 23, 3) := dk_167 0 23 (dk_at dksX0_cellOf_0 10 rfl rfl)
theorem dX0_cellOf_13 : decode cX0_cellOf 13 = .ok (.iload_n 1, 1) := dk_27 (dk_at dksX0_cellOf_0 13 rfl rfl)
theorem dX0_cellOf_14 : decode cX0_cellOf 14 = .ok (.iconst 1, 1) := dk_4 (dk_at dksX0_cellOf_0 14 rfl rfl)
theorem dX0_cellOf_15 : decode cX0_cellOf 15 = .ok (.if_icmp .ne 12, 3) := dk_160 0 12 (dk_at dksX0_cellOf_0 15 rfl rfl)
theorem dX0_cellOf_18 : decode cX0_cellOf 18 = .ok (.aload_n 0, 1) := dk_42 (dk_at dksX0_cellOf_0 18 rfl rfl)
theorem dX0_cellOf_19 : decode cX0_cellOf 19 = .ok (.checkcast 247, 3) := dk_192 0 247 (dk_at dksX0_cellOf_0 19 rfl rfl)
theorem dX0_cellOf_22 : decode cX0_cellOf 22 = .ok (.iload_n 2, 1) := dk_28 (dk_at dksX0_cellOf_0 22 rfl rfl)
theorem dX0_cellOf_23 : decode cX0_cellOf 23 = .ok (.saload, 1) := dk_53 (dk_at dksX0_cellOf_0 23 rfl rfl)
theorem dX0_cellOf_24 : decode cX0_cellOf 24 = .ok (.goto 9, 3) := dk_167 0 9 (dk_at dksX0_cellOf_1 0 rfl rfl)
theorem dX0_cellOf_27 : decode cX0_cellOf 27 = .ok (.aload_n 0, 1) := dk_42 (dk_at dksX0_cellOf_1 3 rfl rfl)
theorem dX0_cellOf_28 : decode cX0_cellOf 28 = .ok (.checkcast 249, 3) := dk_192 0 249 (dk_at dksX0_cellOf_1 4 rfl rfl)
theorem dX0_cellOf_31 : decode cX0_cellOf 31 = .ok (.iload_n 2, 1) := dk_28 (dk_at dksX0_cellOf_1 7 rfl rfl)
theorem dX0_cellOf_32 : decode cX0_cellOf 32 = .ok (.iaload, 1) := dk_46 (dk_at dksX0_cellOf_1 8 rfl rfl)
theorem dX0_cellOf_33 : decode cX0_cellOf 33 = .ok (.ireturn, 1) := dk_172 (dk_at dksX0_cellOf_1 9 rfl rfl)
abbrev cX0_failsLong : ByteArray := prog_1_method_43_code
def yX0_failsLong : MethodName := ⟨RX0, "failsLong", "(I)J"⟩
def dkwX0_failsLong_0 : List UInt8 := [42, 27, 181, 0, 242, 20, 0, 179, 173]
abbrev dktX0_failsLong_0 : List UInt8 := dkwX0_failsLong_0 ++ []
theorem dksX0_failsLong_0 : cX0_failsLong.data.toList.drop 0 = dktX0_failsLong_0 := by decide +kernel
theorem dX0_failsLong_0 : decode cX0_failsLong 0 = .ok (.aload_n 0, 1) := dk_42 (dk_at dksX0_failsLong_0 0 rfl rfl)
theorem dX0_failsLong_1 : decode cX0_failsLong 1 = .ok (.iload_n 1, 1) := dk_27 (dk_at dksX0_failsLong_0 1 rfl rfl)
theorem dX0_failsLong_2 : decode cX0_failsLong 2 = .ok (.putfield 242, 3) := dk_181 0 242 (dk_at dksX0_failsLong_0 2 rfl rfl)
theorem dX0_failsLong_5 : decode cX0_failsLong 5 = .ok (.ldc2_w 179, 3) := dk_20 0 179 (dk_at dksX0_failsLong_0 5 rfl rfl)
theorem dX0_failsLong_8 : decode cX0_failsLong 8 = .ok (.lreturn, 1) := dk_173 (dk_at dksX0_failsLong_0 8 rfl rfl)
abbrev cX0_sea : ByteArray := prog_1_method_57_code
def yX0_sea : MethodName := ⟨RX0, "sea", "(IIII)I"⟩
def dkwX0_sea_0 : List UInt8 := [42, 187, 1, 62, 89, 42, 27, 28, 29, 21, 4, 183, 1, 64, 4, 182, 1, 67, 172]
abbrev dktX0_sea_0 : List UInt8 := dkwX0_sea_0 ++ []
theorem dksX0_sea_0 : cX0_sea.data.toList.drop 0 = dktX0_sea_0 := by decide +kernel
theorem dX0_sea_0 : decode cX0_sea 0 = .ok (.aload_n 0, 1) := dk_42 (dk_at dksX0_sea_0 0 rfl rfl)
theorem dX0_sea_1 : decode cX0_sea 1 = .ok (.new 318, 3) := dk_187 1 62 (dk_at dksX0_sea_0 1 rfl rfl)
theorem dX0_sea_4 : decode cX0_sea 4 = .ok (.dup, 1) := dk_89 (dk_at dksX0_sea_0 4 rfl rfl)
theorem dX0_sea_5 : decode cX0_sea 5 = .ok (.aload_n 0, 1) := dk_42 (dk_at dksX0_sea_0 5 rfl rfl)
theorem dX0_sea_6 : decode cX0_sea 6 = .ok (.iload_n 1, 1) := dk_27 (dk_at dksX0_sea_0 6 rfl rfl)
theorem dX0_sea_7 : decode cX0_sea 7 = .ok (.iload_n 2, 1) := dk_28 (dk_at dksX0_sea_0 7 rfl rfl)
theorem dX0_sea_8 : decode cX0_sea 8 = .ok (.iload_n 3, 1) := dk_29 (dk_at dksX0_sea_0 8 rfl rfl)
theorem dX0_sea_9 : decode cX0_sea 9 = .ok (.iload 4, 2) := dk_21 4 (dk_at dksX0_sea_0 9 rfl rfl)
theorem dX0_sea_11 : decode cX0_sea 11 = .ok (.invokespecial 320, 3) := dk_183 1 64 (dk_at dksX0_sea_0 11 rfl rfl)
theorem dX0_sea_14 : decode cX0_sea 14 = .ok (.iconst 1, 1) := dk_4 (dk_at dksX0_sea_0 14 rfl rfl)
theorem dX0_sea_15 : decode cX0_sea 15 = .ok (.invokevirtual 323, 3) := dk_182 1 67 (dk_at dksX0_sea_0 15 rfl rfl)
theorem dX0_sea_18 : decode cX0_sea 18 = .ok (.ireturn, 1) := dk_172 (dk_at dksX0_sea_0 18 rfl rfl)
abbrev cX0_looked : ByteArray := prog_1_method_56_code
def yX0_looked : MethodName := ⟨RX0, "looked", "(LThirdEbb$Looking;Z)I"⟩
def dkwX0_looked_2 : List UInt8 := [182, 1, 3, 172]
abbrev dktX0_looked_2 : List UInt8 := dkwX0_looked_2 ++ []
def dkwX0_looked_1 : List UInt8 := [20, 0, 77, 184, 0, 11, 153, 0, 14, 28, 153, 0, 10, 43, 182, 1, 59, 167, 0, 9, 42, 16, 254]
abbrev dktX0_looked_1 : List UInt8 := dkwX0_looked_1 ++ dktX0_looked_2
def dkwX0_looked_0 : List UInt8 := [43, 180, 1, 51, 184, 1, 0, 153, 0, 9, 42, 2, 182, 1, 3, 172, 43, 180, 1, 56, 133, 9]
abbrev dktX0_looked_0 : List UInt8 := dkwX0_looked_0 ++ dktX0_looked_1
theorem dksX0_looked_0 : cX0_looked.data.toList.drop 0 = dktX0_looked_0 := by decide +kernel
theorem dksX0_looked_1 : cX0_looked.data.toList.drop 22 = dktX0_looked_1 := dk_seg dksX0_looked_0 22 rfl rfl
theorem dksX0_looked_2 : cX0_looked.data.toList.drop 45 = dktX0_looked_2 := dk_seg dksX0_looked_1 23 rfl rfl
theorem dX0_looked_0 : decode cX0_looked 0 = .ok (.aload_n 1, 1) := dk_43 (dk_at dksX0_looked_0 0 rfl rfl)
theorem dX0_looked_1 : decode cX0_looked 1 = .ok (.getfield 307, 3) := dk_180 1 51 (dk_at dksX0_looked_0 1 rfl rfl)
theorem dX0_looked_4 : decode cX0_looked 4 = .ok (.invokestatic 256, 3) := dk_184 1 0 (dk_at dksX0_looked_0 4 rfl rfl)
theorem dX0_looked_7 : decode cX0_looked 7 = .ok (.ifCond .eq 9, 3) := dk_153 0 9 (dk_at dksX0_looked_0 7 rfl rfl)
theorem dX0_looked_10 : decode cX0_looked 10 = .ok (.aload_n 0, 1) := dk_42 (dk_at dksX0_looked_0 10 rfl rfl)
theorem dX0_looked_11 : decode cX0_looked 11 = .ok (.iconst (-1), 1) := dk_2 (dk_at dksX0_looked_0 11 rfl rfl)
theorem dX0_looked_12 : decode cX0_looked 12 = .ok (.invokevirtual 259, 3) := dk_182 1 3 (dk_at dksX0_looked_0 12 rfl rfl)
theorem dX0_looked_15 : decode cX0_looked 15 = .ok (.ireturn, 1) := dk_172 (dk_at dksX0_looked_0 15 rfl rfl)
theorem dX0_looked_16 : decode cX0_looked 16 = .ok (.aload_n 1, 1) := dk_43 (dk_at dksX0_looked_0 16 rfl rfl)
theorem dX0_looked_17 : decode cX0_looked 17 = .ok (.getfield 312, 3) := dk_180 1 56 (dk_at dksX0_looked_0 17 rfl rfl)
theorem dX0_looked_20 : decode cX0_looked 20 = .ok (.i2l, 1) := dk_133 (dk_at dksX0_looked_0 20 rfl rfl)
theorem dX0_looked_21 : decode cX0_looked 21 = .ok (.lconst 0, 1) := dk_9 (dk_at dksX0_looked_0 21 rfl rfl)
theorem dX0_looked_22 : decode cX0_looked 22 = .ok (.ldc2_w 77, 3) := dk_20 0 77 (dk_at dksX0_looked_1 0 rfl rfl)
theorem dX0_looked_25 : decode cX0_looked 25 = .ok (.invokestatic 11, 3) := dk_184 0 11 (dk_at dksX0_looked_1 3 rfl rfl)
theorem dX0_looked_28 : decode cX0_looked 28 = .ok (.ifCond .eq 14, 3) := dk_153 0 14 (dk_at dksX0_looked_1 6 rfl rfl)
theorem dX0_looked_31 : decode cX0_looked 31 = .ok (.iload_n 2, 1) := dk_28 (dk_at dksX0_looked_1 9 rfl rfl)
theorem dX0_looked_32 : decode cX0_looked 32 = .ok (.ifCond .eq 10, 3) := dk_153 0 10 (dk_at dksX0_looked_1 10 rfl rfl)
theorem dX0_looked_35 : decode cX0_looked 35 = .ok (.aload_n 1, 1) := dk_43 (dk_at dksX0_looked_1 13 rfl rfl)
theorem dX0_looked_36 : decode cX0_looked 36 = .ok (.invokevirtual 315, 3) := dk_182 1 59 (dk_at dksX0_looked_1 14 rfl rfl)
theorem dX0_looked_39 : decode cX0_looked 39 = .ok (.goto 9, 3) := dk_167 0 9 (dk_at dksX0_looked_1 17 rfl rfl)
theorem dX0_looked_42 : decode cX0_looked 42 = .ok (.aload_n 0, 1) := dk_42 (dk_at dksX0_looked_1 20 rfl rfl)
theorem dX0_looked_43 : decode cX0_looked 43 = .ok (.bipush (-2), 2) := dk_16 254 (dk_at dksX0_looked_1 21 rfl rfl)
theorem dX0_looked_45 : decode cX0_looked 45 = .ok (.invokevirtual 259, 3) := dk_182 1 3 (dk_at dksX0_looked_2 0 rfl rfl)
theorem dX0_looked_48 : decode cX0_looked 48 = .ok (.ireturn, 1) := dk_172 (dk_at dksX0_looked_2 3 rfl rfl)
abbrev cX0_cellsOf : ByteArray := prog_1_method_55_code
def yX0_cellsOf : MethodName := ⟨RX0, "cellsOf", "(Ljava/lang/Object;III)[I"⟩
def dkwX0_cellsOf_3 : List UInt8 := [184, 1, 29, 79, 132, 7, 1, 167, 255, 231, 25, 6, 176]
abbrev dktX0_cellsOf_3 : List UInt8 := dkwX0_cellsOf_3 ++ []
def dkwX0_cellsOf_2 : List UInt8 := [58, 6, 3, 54, 7, 21, 7, 25, 6, 190, 162, 0, 23, 25, 6, 21, 7, 42, 27, 28, 21, 7, 96]
abbrev dktX0_cellsOf_2 : List UInt8 := dkwX0_cellsOf_2 ++ dktX0_cellsOf_3
def dkwX0_cellsOf_1 : List UInt8 := [155, 0, 15, 28, 21, 4, 29, 100, 163, 0, 7, 4, 167, 0, 4, 3, 184, 1, 48, 25, 5, 190, 188, 10]
abbrev dktX0_cellsOf_1 : List UInt8 := dkwX0_cellsOf_1 ++ dktX0_cellsOf_2
def dkwX0_cellsOf_0 : List UInt8 := [42, 27, 184, 1, 44, 54, 4, 29, 16, 61, 184, 0, 204, 188, 8, 58, 5, 29, 16, 61, 162, 0, 19, 28]
abbrev dktX0_cellsOf_0 : List UInt8 := dkwX0_cellsOf_0 ++ dktX0_cellsOf_1
theorem dksX0_cellsOf_0 : cX0_cellsOf.data.toList.drop 0 = dktX0_cellsOf_0 := by decide +kernel
theorem dksX0_cellsOf_1 : cX0_cellsOf.data.toList.drop 24 = dktX0_cellsOf_1 := dk_seg dksX0_cellsOf_0 24 rfl rfl
theorem dksX0_cellsOf_2 : cX0_cellsOf.data.toList.drop 48 = dktX0_cellsOf_2 := dk_seg dksX0_cellsOf_1 24 rfl rfl
theorem dksX0_cellsOf_3 : cX0_cellsOf.data.toList.drop 71 = dktX0_cellsOf_3 := dk_seg dksX0_cellsOf_2 23 rfl rfl
theorem dX0_cellsOf_0 : decode cX0_cellsOf 0 = .ok (.aload_n 0, 1) := dk_42 (dk_at dksX0_cellsOf_0 0 rfl rfl)
theorem dX0_cellsOf_1 : decode cX0_cellsOf 1 = .ok (.iload_n 1, 1) := dk_27 (dk_at dksX0_cellsOf_0 1 rfl rfl)
theorem dX0_cellsOf_2 : decode cX0_cellsOf 2 = .ok (.invokestatic 300, 3) := dk_184 1 44 (dk_at dksX0_cellsOf_0 2 rfl rfl)
theorem dX0_cellsOf_5 : decode cX0_cellsOf 5 = .ok (.istore 4, 2) := dk_54 4 (dk_at dksX0_cellsOf_0 5 rfl rfl)
theorem dX0_cellsOf_7 : decode cX0_cellsOf 7 = .ok (.iload_n 3, 1) := dk_29 (dk_at dksX0_cellsOf_0 7 rfl rfl)
theorem dX0_cellsOf_8 : decode cX0_cellsOf 8 = .ok (.bipush 61, 2) := dk_16 61 (dk_at dksX0_cellsOf_0 8 rfl rfl)
theorem dX0_cellsOf_10 : decode cX0_cellsOf 10 = .ok (.invokestatic 204, 3) := dk_184 0 204 (dk_at dksX0_cellsOf_0 10 rfl rfl)
theorem dX0_cellsOf_13 : decode cX0_cellsOf 13 = .ok (.newarray .byte, 2) := dk_188_8 (dk_at dksX0_cellsOf_0 13 rfl rfl)
theorem dX0_cellsOf_15 : decode cX0_cellsOf 15 = .ok (.astore 5, 2) := dk_58 5 (dk_at dksX0_cellsOf_0 15 rfl rfl)
theorem dX0_cellsOf_17 : decode cX0_cellsOf 17 = .ok (.iload_n 3, 1) := dk_29 (dk_at dksX0_cellsOf_0 17 rfl rfl)
theorem dX0_cellsOf_18 : decode cX0_cellsOf 18 = .ok (.bipush 61, 2) := dk_16 61 (dk_at dksX0_cellsOf_0 18 rfl rfl)
theorem dX0_cellsOf_20 : decode cX0_cellsOf 20 = .ok (.if_icmp .ge 19, 3) := dk_162 0 19 (dk_at dksX0_cellsOf_0 20 rfl rfl)
theorem dX0_cellsOf_23 : decode cX0_cellsOf 23 = .ok (.iload_n 2, 1) := dk_28 (dk_at dksX0_cellsOf_0 23 rfl rfl)
theorem dX0_cellsOf_24 : decode cX0_cellsOf 24 = .ok (.ifCond .lt 15, 3) := dk_155 0 15 (dk_at dksX0_cellsOf_1 0 rfl rfl)
theorem dX0_cellsOf_27 : decode cX0_cellsOf 27 = .ok (.iload_n 2, 1) := dk_28 (dk_at dksX0_cellsOf_1 3 rfl rfl)
theorem dX0_cellsOf_28 : decode cX0_cellsOf 28 = .ok (.iload 4, 2) := dk_21 4 (dk_at dksX0_cellsOf_1 4 rfl rfl)
theorem dX0_cellsOf_30 : decode cX0_cellsOf 30 = .ok (.iload_n 3, 1) := dk_29 (dk_at dksX0_cellsOf_1 6 rfl rfl)
theorem dX0_cellsOf_31 : decode cX0_cellsOf 31 = .ok (.isub, 1) := dk_100 (dk_at dksX0_cellsOf_1 7 rfl rfl)
theorem dX0_cellsOf_32 : decode cX0_cellsOf 32 = .ok (.if_icmp .gt 7, 3) := dk_163 0 7 (dk_at dksX0_cellsOf_1 8 rfl rfl)
theorem dX0_cellsOf_35 : decode cX0_cellsOf 35 = .ok (.iconst 1, 1) := dk_4 (dk_at dksX0_cellsOf_1 11 rfl rfl)
theorem dX0_cellsOf_36 : decode cX0_cellsOf 36 = .ok (.goto 4, 3) := dk_167 0 4 (dk_at dksX0_cellsOf_1 12 rfl rfl)
theorem dX0_cellsOf_39 : decode cX0_cellsOf 39 = .ok (.iconst 0, 1) := dk_3 (dk_at dksX0_cellsOf_1 15 rfl rfl)
theorem dX0_cellsOf_40 : decode cX0_cellsOf 40 = .ok (.invokestatic 304, 3) := dk_184 1 48 (dk_at dksX0_cellsOf_1 16 rfl rfl)
theorem dX0_cellsOf_43 : decode cX0_cellsOf 43 = .ok (.aload 5, 2) := dk_25 5 (dk_at dksX0_cellsOf_1 19 rfl rfl)
theorem dX0_cellsOf_45 : decode cX0_cellsOf 45 = .ok (.arraylength, 1) := dk_190 (dk_at dksX0_cellsOf_1 21 rfl rfl)
theorem dX0_cellsOf_46 : decode cX0_cellsOf 46 = .ok (.newarray .int, 2) := dk_188_10 (dk_at dksX0_cellsOf_1 22 rfl rfl)
theorem dX0_cellsOf_48 : decode cX0_cellsOf 48 = .ok (.astore 6, 2) := dk_58 6 (dk_at dksX0_cellsOf_2 0 rfl rfl)
theorem dX0_cellsOf_50 : decode cX0_cellsOf 50 = .ok (.iconst 0, 1) := dk_3 (dk_at dksX0_cellsOf_2 2 rfl rfl)
theorem dX0_cellsOf_51 : decode cX0_cellsOf 51 = .ok (.istore 7, 2) := dk_54 7 (dk_at dksX0_cellsOf_2 3 rfl rfl)
theorem dX0_cellsOf_53 : decode cX0_cellsOf 53 = .ok (.iload 7, 2) := dk_21 7 (dk_at dksX0_cellsOf_2 5 rfl rfl)
theorem dX0_cellsOf_55 : decode cX0_cellsOf 55 = .ok (.aload 6, 2) := dk_25 6 (dk_at dksX0_cellsOf_2 7 rfl rfl)
theorem dX0_cellsOf_57 : decode cX0_cellsOf 57 = .ok (.arraylength, 1) := dk_190 (dk_at dksX0_cellsOf_2 9 rfl rfl)
theorem dX0_cellsOf_58 : decode cX0_cellsOf 58 = .ok (.if_icmp .ge 23, 3) := dk_162 0 23 (dk_at dksX0_cellsOf_2 10 rfl rfl)
theorem dX0_cellsOf_61 : decode cX0_cellsOf 61 = .ok (.aload 6, 2) := dk_25 6 (dk_at dksX0_cellsOf_2 13 rfl rfl)
theorem dX0_cellsOf_63 : decode cX0_cellsOf 63 = .ok (.iload 7, 2) := dk_21 7 (dk_at dksX0_cellsOf_2 15 rfl rfl)
theorem dX0_cellsOf_65 : decode cX0_cellsOf 65 = .ok (.aload_n 0, 1) := dk_42 (dk_at dksX0_cellsOf_2 17 rfl rfl)
theorem dX0_cellsOf_66 : decode cX0_cellsOf 66 = .ok (.iload_n 1, 1) := dk_27 (dk_at dksX0_cellsOf_2 18 rfl rfl)
theorem dX0_cellsOf_67 : decode cX0_cellsOf 67 = .ok (.iload_n 2, 1) := dk_28 (dk_at dksX0_cellsOf_2 19 rfl rfl)
theorem dX0_cellsOf_68 : decode cX0_cellsOf 68 = .ok (.iload 7, 2) := dk_21 7 (dk_at dksX0_cellsOf_2 20 rfl rfl)
theorem dX0_cellsOf_70 : decode cX0_cellsOf 70 = .ok (.iadd, 1) := dk_96 (dk_at dksX0_cellsOf_2 22 rfl rfl)
theorem dX0_cellsOf_71 : decode cX0_cellsOf 71 = .ok (.invokestatic 285, 3) := dk_184 1 29 (dk_at dksX0_cellsOf_3 0 rfl rfl)
theorem dX0_cellsOf_74 : decode cX0_cellsOf 74 = .ok (.iastore, 1) := dk_79 (dk_at dksX0_cellsOf_3 3 rfl rfl)
theorem dX0_cellsOf_75 : decode cX0_cellsOf 75 = .ok (.iinc 7 1, 3) := dk_132 7 1 (dk_at dksX0_cellsOf_3 4 rfl rfl)
theorem dX0_cellsOf_78 : decode cX0_cellsOf 78 = .ok (.goto (-25), 3) := dk_167 255 231 (dk_at dksX0_cellsOf_3 7 rfl rfl)
theorem dX0_cellsOf_81 : decode cX0_cellsOf 81 = .ok (.aload 6, 2) := dk_25 6 (dk_at dksX0_cellsOf_3 10 rfl rfl)
theorem dX0_cellsOf_83 : decode cX0_cellsOf 83 = .ok (.areturn, 1) := dk_176 (dk_at dksX0_cellsOf_3 12 rfl rfl)
abbrev cX0_sizeOf : ByteArray := prog_1_method_46_code
def yX0_sizeOf : MethodName := ⟨RX0, "sizeOf", "(Ljava/lang/Object;I)I"⟩
def dkwX0_sizeOf_1 : List UInt8 := [167, 0, 8, 42, 192, 0, 249, 190, 172]
abbrev dktX0_sizeOf_1 : List UInt8 := dkwX0_sizeOf_1 ++ []
def dkwX0_sizeOf_0 : List UInt8 := [27, 154, 0, 11, 42, 192, 0, 245, 190, 167, 0, 21, 27, 4, 160, 0, 11, 42, 192, 0, 247, 190]
abbrev dktX0_sizeOf_0 : List UInt8 := dkwX0_sizeOf_0 ++ dktX0_sizeOf_1
theorem dksX0_sizeOf_0 : cX0_sizeOf.data.toList.drop 0 = dktX0_sizeOf_0 := by decide +kernel
theorem dksX0_sizeOf_1 : cX0_sizeOf.data.toList.drop 22 = dktX0_sizeOf_1 := dk_seg dksX0_sizeOf_0 22 rfl rfl
theorem dX0_sizeOf_0 : decode cX0_sizeOf 0 = .ok (.iload_n 1, 1) := dk_27 (dk_at dksX0_sizeOf_0 0 rfl rfl)
theorem dX0_sizeOf_1 : decode cX0_sizeOf 1 = .ok (.ifCond .ne 11, 3) := dk_154 0 11 (dk_at dksX0_sizeOf_0 1 rfl rfl)
theorem dX0_sizeOf_4 : decode cX0_sizeOf 4 = .ok (.aload_n 0, 1) := dk_42 (dk_at dksX0_sizeOf_0 4 rfl rfl)
theorem dX0_sizeOf_5 : decode cX0_sizeOf 5 = .ok (.checkcast 245, 3) := dk_192 0 245 (dk_at dksX0_sizeOf_0 5 rfl rfl)
theorem dX0_sizeOf_8 : decode cX0_sizeOf 8 = .ok (.arraylength, 1) := dk_190 (dk_at dksX0_sizeOf_0 8 rfl rfl)
theorem dX0_sizeOf_9 : decode cX0_sizeOf 9 = .ok (.goto 21, 3) := dk_167 0 21 (dk_at dksX0_sizeOf_0 9 rfl rfl)
theorem dX0_sizeOf_12 : decode cX0_sizeOf 12 = .ok (.iload_n 1, 1) := dk_27 (dk_at dksX0_sizeOf_0 12 rfl rfl)
theorem dX0_sizeOf_13 : decode cX0_sizeOf 13 = .ok (.iconst 1, 1) := dk_4 (dk_at dksX0_sizeOf_0 13 rfl rfl)
theorem dX0_sizeOf_14 : decode cX0_sizeOf 14 = .ok (.if_icmp .ne 11, 3) := dk_160 0 11 (dk_at dksX0_sizeOf_0 14 rfl rfl)
theorem dX0_sizeOf_17 : decode cX0_sizeOf 17 = .ok (.aload_n 0, 1) := dk_42 (dk_at dksX0_sizeOf_0 17 rfl rfl)
theorem dX0_sizeOf_18 : decode cX0_sizeOf 18 = .ok (.checkcast 247, 3) := dk_192 0 247 (dk_at dksX0_sizeOf_0 18 rfl rfl)
theorem dX0_sizeOf_21 : decode cX0_sizeOf 21 = .ok (.arraylength, 1) := dk_190 (dk_at dksX0_sizeOf_0 21 rfl rfl)
theorem dX0_sizeOf_22 : decode cX0_sizeOf 22 = .ok (.goto 8, 3) := dk_167 0 8 (dk_at dksX0_sizeOf_1 0 rfl rfl)
theorem dX0_sizeOf_25 : decode cX0_sizeOf 25 = .ok (.aload_n 0, 1) := dk_42 (dk_at dksX0_sizeOf_1 3 rfl rfl)
theorem dX0_sizeOf_26 : decode cX0_sizeOf 26 = .ok (.checkcast 249, 3) := dk_192 0 249 (dk_at dksX0_sizeOf_1 4 rfl rfl)
theorem dX0_sizeOf_29 : decode cX0_sizeOf 29 = .ok (.arraylength, 1) := dk_190 (dk_at dksX0_sizeOf_1 7 rfl rfl)
theorem dX0_sizeOf_30 : decode cX0_sizeOf 30 = .ok (.ireturn, 1) := dk_172 (dk_at dksX0_sizeOf_1 8 rfl rfl)
abbrev cX0_need : ByteArray := prog_1_method_54_code
def yX0_need : MethodName := ⟨RX0, "need", "(Z)V"⟩
def dkwX0_need_0 : List UInt8 := [26, 154, 0, 14, 187, 1, 24, 89, 19, 1, 39, 183, 1, 41, 191, 177]
abbrev dktX0_need_0 : List UInt8 := dkwX0_need_0 ++ []
theorem dksX0_need_0 : cX0_need.data.toList.drop 0 = dktX0_need_0 := by decide +kernel
theorem dX0_need_0 : decode cX0_need 0 = .ok (.iload_n 0, 1) := dk_26 (dk_at dksX0_need_0 0 rfl rfl)
theorem dX0_need_1 : decode cX0_need 1 = .ok (.ifCond .ne 14, 3) := dk_154 0 14 (dk_at dksX0_need_0 1 rfl rfl)
theorem dX0_need_4 : decode cX0_need 4 = .ok (.new 280, 3) := dk_187 1 24 (dk_at dksX0_need_0 4 rfl rfl)
theorem dX0_need_7 : decode cX0_need 7 = .ok (.dup, 1) := dk_89 (dk_at dksX0_need_0 7 rfl rfl)
theorem dX0_need_8 : decode cX0_need 8 = .ok (.ldc_w 295, 3) := dk_19 1 39 (dk_at dksX0_need_0 8 rfl rfl)
theorem dX0_need_11 : decode cX0_need 11 = .ok (.invokespecial 297, 3) := dk_183 1 41 (dk_at dksX0_need_0 11 rfl rfl)
theorem dX0_need_14 : decode cX0_need 14 = .ok (.athrow, 1) := dk_191 (dk_at dksX0_need_0 14 rfl rfl)
theorem dX0_need_15 : decode cX0_need 15 = .ok (.return_, 1) := dk_177 (dk_at dksX0_need_0 15 rfl rfl)
abbrev cX0_monthsOf : ByteArray := prog_1_method_40_code
def yX0_monthsOf : MethodName := ⟨RX0, "monthsOf", "([I)I"⟩
def dkwX0_monthsOf_4 : List UInt8 := [28, 5, 100, 120, 167, 0, 4, 3, 128, 60, 132, 2, 1, 167, 255, 192, 27, 172]
abbrev dktX0_monthsOf_4 : List UInt8 := dkwX0_monthsOf_4 ++ []
def dkwX0_monthsOf_3 : List UInt8 := [28, 112, 154, 0, 7, 4, 167, 0, 4, 3, 126, 62, 132, 4, 1, 167, 255, 225, 27, 29, 153, 0, 11, 4]
abbrev dktX0_monthsOf_3 : List UInt8 := dkwX0_monthsOf_3 ++ dktX0_monthsOf_4
def dkwX0_monthsOf_2 : List UInt8 := [163, 0, 64, 4, 62, 4, 54, 4, 21, 4, 42, 190, 162, 0, 30, 29, 42, 21, 4, 46, 42, 3, 46, 100]
abbrev dktX0_monthsOf_2 : List UInt8 := dkwX0_monthsOf_2 ++ dktX0_monthsOf_3
def dkwX0_monthsOf_1 : List UInt8 := [42, 27, 4, 100, 46, 163, 0, 6, 16, 254, 172, 132, 1, 1, 167, 255, 220, 3, 60, 5, 61, 28, 16, 30]
abbrev dktX0_monthsOf_1 : List UInt8 := dkwX0_monthsOf_1 ++ dktX0_monthsOf_2
def dkwX0_monthsOf_0 : List UInt8 := [3, 60, 27, 42, 190, 162, 0, 36, 42, 27, 46, 184, 0, 125, 153, 0, 18, 27, 158, 0, 17, 42, 27, 46]
abbrev dktX0_monthsOf_0 : List UInt8 := dkwX0_monthsOf_0 ++ dktX0_monthsOf_1
theorem dksX0_monthsOf_0 : cX0_monthsOf.data.toList.drop 0 = dktX0_monthsOf_0 := by decide +kernel
theorem dksX0_monthsOf_1 : cX0_monthsOf.data.toList.drop 24 = dktX0_monthsOf_1 := dk_seg dksX0_monthsOf_0 24 rfl rfl
theorem dksX0_monthsOf_2 : cX0_monthsOf.data.toList.drop 48 = dktX0_monthsOf_2 := dk_seg dksX0_monthsOf_1 24 rfl rfl
theorem dksX0_monthsOf_3 : cX0_monthsOf.data.toList.drop 72 = dktX0_monthsOf_3 := dk_seg dksX0_monthsOf_2 24 rfl rfl
theorem dksX0_monthsOf_4 : cX0_monthsOf.data.toList.drop 96 = dktX0_monthsOf_4 := dk_seg dksX0_monthsOf_3 24 rfl rfl
theorem dX0_monthsOf_0 : decode cX0_monthsOf 0 = .ok (.iconst 0, 1) := dk_3 (dk_at dksX0_monthsOf_0 0 rfl rfl)
theorem dX0_monthsOf_1 : decode cX0_monthsOf 1 = .ok (.istore_n 1, 1) := dk_60 (dk_at dksX0_monthsOf_0 1 rfl rfl)
theorem dX0_monthsOf_2 : decode cX0_monthsOf 2 = .ok (.iload_n 1, 1) := dk_27 (dk_at dksX0_monthsOf_0 2 rfl rfl)
theorem dX0_monthsOf_3 : decode cX0_monthsOf 3 = .ok (.aload_n 0, 1) := dk_42 (dk_at dksX0_monthsOf_0 3 rfl rfl)
theorem dX0_monthsOf_4 : decode cX0_monthsOf 4 = .ok (.arraylength, 1) := dk_190 (dk_at dksX0_monthsOf_0 4 rfl rfl)
theorem dX0_monthsOf_5 : decode cX0_monthsOf 5 = .ok (.if_icmp .ge 36, 3) := dk_162 0 36 (dk_at dksX0_monthsOf_0 5 rfl rfl)
theorem dX0_monthsOf_8 : decode cX0_monthsOf 8 = .ok (.aload_n 0, 1) := dk_42 (dk_at dksX0_monthsOf_0 8 rfl rfl)
theorem dX0_monthsOf_9 : decode cX0_monthsOf 9 = .ok (.iload_n 1, 1) := dk_27 (dk_at dksX0_monthsOf_0 9 rfl rfl)
theorem dX0_monthsOf_10 : decode cX0_monthsOf 10 = .ok (.iaload, 1) := dk_46 (dk_at dksX0_monthsOf_0 10 rfl rfl)
theorem dX0_monthsOf_11 : decode cX0_monthsOf 11 = .ok (.invokestatic 125, 3) := dk_184 0 125 (dk_at dksX0_monthsOf_0 11 rfl rfl)
theorem dX0_monthsOf_14 : decode cX0_monthsOf 14 = .ok (.ifCond .eq 18, 3) := dk_153 0 18 (dk_at dksX0_monthsOf_0 14 rfl rfl)
theorem dX0_monthsOf_17 : decode cX0_monthsOf 17 = .ok (.iload_n 1, 1) := dk_27 (dk_at dksX0_monthsOf_0 17 rfl rfl)
theorem dX0_monthsOf_18 : decode cX0_monthsOf 18 = .ok (.ifCond .le 17, 3) := dk_158 0 17 (dk_at dksX0_monthsOf_0 18 rfl rfl)
theorem dX0_monthsOf_21 : decode cX0_monthsOf 21 = .ok (.aload_n 0, 1) := dk_42 (dk_at dksX0_monthsOf_0 21 rfl rfl)
theorem dX0_monthsOf_22 : decode cX0_monthsOf 22 = .ok (.iload_n 1, 1) := dk_27 (dk_at dksX0_monthsOf_0 22 rfl rfl)
theorem dX0_monthsOf_23 : decode cX0_monthsOf 23 = .ok (.iaload, 1) := dk_46 (dk_at dksX0_monthsOf_0 23 rfl rfl)
theorem dX0_monthsOf_24 : decode cX0_monthsOf 24 = .ok (.aload_n 0, 1) := dk_42 (dk_at dksX0_monthsOf_1 0 rfl rfl)
theorem dX0_monthsOf_25 : decode cX0_monthsOf 25 = .ok (.iload_n 1, 1) := dk_27 (dk_at dksX0_monthsOf_1 1 rfl rfl)
theorem dX0_monthsOf_26 : decode cX0_monthsOf 26 = .ok (.iconst 1, 1) := dk_4 (dk_at dksX0_monthsOf_1 2 rfl rfl)
theorem dX0_monthsOf_27 : decode cX0_monthsOf 27 = .ok (.isub, 1) := dk_100 (dk_at dksX0_monthsOf_1 3 rfl rfl)
theorem dX0_monthsOf_28 : decode cX0_monthsOf 28 = .ok (.iaload, 1) := dk_46 (dk_at dksX0_monthsOf_1 4 rfl rfl)
theorem dX0_monthsOf_29 : decode cX0_monthsOf 29 = .ok (.if_icmp .gt 6, 3) := dk_163 0 6 (dk_at dksX0_monthsOf_1 5 rfl rfl)
theorem dX0_monthsOf_32 : decode cX0_monthsOf 32 = .ok (.bipush (-2), 2) := dk_16 254 (dk_at dksX0_monthsOf_1 8 rfl rfl)
theorem dX0_monthsOf_34 : decode cX0_monthsOf 34 = .ok (.ireturn, 1) := dk_172 (dk_at dksX0_monthsOf_1 10 rfl rfl)
theorem dX0_monthsOf_35 : decode cX0_monthsOf 35 = .ok (.iinc 1 1, 3) := dk_132 1 1 (dk_at dksX0_monthsOf_1 11 rfl rfl)
theorem dX0_monthsOf_38 : decode cX0_monthsOf 38 = .ok (.goto (-36), 3) := dk_167 255 220 (dk_at dksX0_monthsOf_1 14 rfl rfl)
theorem dX0_monthsOf_41 : decode cX0_monthsOf 41 = .ok (.iconst 0, 1) := dk_3 (dk_at dksX0_monthsOf_1 17 rfl rfl)
theorem dX0_monthsOf_42 : decode cX0_monthsOf 42 = .ok (.istore_n 1, 1) := dk_60 (dk_at dksX0_monthsOf_1 18 rfl rfl)
theorem dX0_monthsOf_43 : decode cX0_monthsOf 43 = .ok (.iconst 2, 1) := dk_5 (dk_at dksX0_monthsOf_1 19 rfl rfl)
theorem dX0_monthsOf_44 : decode cX0_monthsOf 44 = .ok (.istore_n 2, 1) := dk_61 (dk_at dksX0_monthsOf_1 20 rfl rfl)
theorem dX0_monthsOf_45 : decode cX0_monthsOf 45 = .ok (.iload_n 2, 1) := dk_28 (dk_at dksX0_monthsOf_1 21 rfl rfl)
theorem dX0_monthsOf_46 : decode cX0_monthsOf 46 = .ok (.bipush 30, 2) := dk_16 30 (dk_at dksX0_monthsOf_1 22 rfl rfl)
theorem dX0_monthsOf_48 : decode cX0_monthsOf 48 = .ok (.if_icmp .gt 64, 3) := dk_163 0 64 (dk_at dksX0_monthsOf_2 0 rfl rfl)
theorem dX0_monthsOf_51 : decode cX0_monthsOf 51 = .ok (.iconst 1, 1) := dk_4 (dk_at dksX0_monthsOf_2 3 rfl rfl)
theorem dX0_monthsOf_52 : decode cX0_monthsOf 52 = .ok (.istore_n 3, 1) := dk_62 (dk_at dksX0_monthsOf_2 4 rfl rfl)
theorem dX0_monthsOf_53 : decode cX0_monthsOf 53 = .ok (.iconst 1, 1) := dk_4 (dk_at dksX0_monthsOf_2 5 rfl rfl)
theorem dX0_monthsOf_54 : decode cX0_monthsOf 54 = .ok (.istore 4, 2) := dk_54 4 (dk_at dksX0_monthsOf_2 6 rfl rfl)
theorem dX0_monthsOf_56 : decode cX0_monthsOf 56 = .ok (.iload 4, 2) := dk_21 4 (dk_at dksX0_monthsOf_2 8 rfl rfl)
theorem dX0_monthsOf_58 : decode cX0_monthsOf 58 = .ok (.aload_n 0, 1) := dk_42 (dk_at dksX0_monthsOf_2 10 rfl rfl)
theorem dX0_monthsOf_59 : decode cX0_monthsOf 59 = .ok (.arraylength, 1) := dk_190 (dk_at dksX0_monthsOf_2 11 rfl rfl)
theorem dX0_monthsOf_60 : decode cX0_monthsOf 60 = .ok (.if_icmp .ge 30, 3) := dk_162 0 30 (dk_at dksX0_monthsOf_2 12 rfl rfl)
theorem dX0_monthsOf_63 : decode cX0_monthsOf 63 = .ok (.iload_n 3, 1) := dk_29 (dk_at dksX0_monthsOf_2 15 rfl rfl)
theorem dX0_monthsOf_64 : decode cX0_monthsOf 64 = .ok (.aload_n 0, 1) := dk_42 (dk_at dksX0_monthsOf_2 16 rfl rfl)
theorem dX0_monthsOf_65 : decode cX0_monthsOf 65 = .ok (.iload 4, 2) := dk_21 4 (dk_at dksX0_monthsOf_2 17 rfl rfl)
theorem dX0_monthsOf_67 : decode cX0_monthsOf 67 = .ok (.iaload, 1) := dk_46 (dk_at dksX0_monthsOf_2 19 rfl rfl)
theorem dX0_monthsOf_68 : decode cX0_monthsOf 68 = .ok (.aload_n 0, 1) := dk_42 (dk_at dksX0_monthsOf_2 20 rfl rfl)
theorem dX0_monthsOf_69 : decode cX0_monthsOf 69 = .ok (.iconst 0, 1) := dk_3 (dk_at dksX0_monthsOf_2 21 rfl rfl)
theorem dX0_monthsOf_70 : decode cX0_monthsOf 70 = .ok (.iaload, 1) := dk_46 (dk_at dksX0_monthsOf_2 22 rfl rfl)
theorem dX0_monthsOf_71 : decode cX0_monthsOf 71 = .ok (.isub, 1) := dk_100 (dk_at dksX0_monthsOf_2 23 rfl rfl)
theorem dX0_monthsOf_72 : decode cX0_monthsOf 72 = .ok (.iload_n 2, 1) := dk_28 (dk_at dksX0_monthsOf_3 0 rfl rfl)
theorem dX0_monthsOf_73 : decode cX0_monthsOf 73 = .ok (.irem, 1) := dk_112 (dk_at dksX0_monthsOf_3 1 rfl rfl)
theorem dX0_monthsOf_74 : decode cX0_monthsOf 74 = .ok (.ifCond .ne 7, 3) := dk_154 0 7 (dk_at dksX0_monthsOf_3 2 rfl rfl)
theorem dX0_monthsOf_77 : decode cX0_monthsOf 77 = .ok (.iconst 1, 1) := dk_4 (dk_at dksX0_monthsOf_3 5 rfl rfl)
theorem dX0_monthsOf_78 : decode cX0_monthsOf 78 = .ok (.goto 4, 3) := dk_167 0 4 (dk_at dksX0_monthsOf_3 6 rfl rfl)
theorem dX0_monthsOf_81 : decode cX0_monthsOf 81 = .ok (.iconst 0, 1) := dk_3 (dk_at dksX0_monthsOf_3 9 rfl rfl)
theorem dX0_monthsOf_82 : decode cX0_monthsOf 82 = .ok (.iand, 1) := dk_126 (dk_at dksX0_monthsOf_3 10 rfl rfl)
theorem dX0_monthsOf_83 : decode cX0_monthsOf 83 = .ok (.istore_n 3, 1) := dk_62 (dk_at dksX0_monthsOf_3 11 rfl rfl)
theorem dX0_monthsOf_84 : decode cX0_monthsOf 84 = .ok (.iinc 4 1, 3) := dk_132 4 1 (dk_at dksX0_monthsOf_3 12 rfl rfl)
theorem dX0_monthsOf_87 : decode cX0_monthsOf 87 = .ok (.goto (-31), 3) := dk_167 255 225 (dk_at dksX0_monthsOf_3 15 rfl rfl)
theorem dX0_monthsOf_90 : decode cX0_monthsOf 90 = .ok (.iload_n 1, 1) := dk_27 (dk_at dksX0_monthsOf_3 18 rfl rfl)
theorem dX0_monthsOf_91 : decode cX0_monthsOf 91 = .ok (.iload_n 3, 1) := dk_29 (dk_at dksX0_monthsOf_3 19 rfl rfl)
theorem dX0_monthsOf_92 : decode cX0_monthsOf 92 = .ok (.ifCond .eq 11, 3) := dk_153 0 11 (dk_at dksX0_monthsOf_3 20 rfl rfl)
theorem dX0_monthsOf_95 : decode cX0_monthsOf 95 = .ok (.iconst 1, 1) := dk_4 (dk_at dksX0_monthsOf_3 23 rfl rfl)
theorem dX0_monthsOf_96 : decode cX0_monthsOf 96 = .ok (.iload_n 2, 1) := dk_28 (dk_at dksX0_monthsOf_4 0 rfl rfl)
theorem dX0_monthsOf_97 : decode cX0_monthsOf 97 = .ok (.iconst 2, 1) := dk_5 (dk_at dksX0_monthsOf_4 1 rfl rfl)
theorem dX0_monthsOf_98 : decode cX0_monthsOf 98 = .ok (.isub, 1) := dk_100 (dk_at dksX0_monthsOf_4 2 rfl rfl)
theorem dX0_monthsOf_99 : decode cX0_monthsOf 99 = .ok (.ishl, 1) := dk_120 (dk_at dksX0_monthsOf_4 3 rfl rfl)
theorem dX0_monthsOf_100 : decode cX0_monthsOf 100 = .ok (.goto 4, 3) := dk_167 0 4 (dk_at dksX0_monthsOf_4 4 rfl rfl)
theorem dX0_monthsOf_103 : decode cX0_monthsOf 103 = .ok (.iconst 0, 1) := dk_3 (dk_at dksX0_monthsOf_4 7 rfl rfl)
theorem dX0_monthsOf_104 : decode cX0_monthsOf 104 = .ok (.ior, 1) := dk_128 (dk_at dksX0_monthsOf_4 8 rfl rfl)
theorem dX0_monthsOf_105 : decode cX0_monthsOf 105 = .ok (.istore_n 1, 1) := dk_60 (dk_at dksX0_monthsOf_4 9 rfl rfl)
theorem dX0_monthsOf_106 : decode cX0_monthsOf 106 = .ok (.iinc 2 1, 3) := dk_132 2 1 (dk_at dksX0_monthsOf_4 10 rfl rfl)
theorem dX0_monthsOf_109 : decode cX0_monthsOf 109 = .ok (.goto (-64), 3) := dk_167 255 192 (dk_at dksX0_monthsOf_4 13 rfl rfl)
theorem dX0_monthsOf_112 : decode cX0_monthsOf 112 = .ok (.iload_n 1, 1) := dk_27 (dk_at dksX0_monthsOf_4 16 rfl rfl)
theorem dX0_monthsOf_113 : decode cX0_monthsOf 113 = .ok (.ireturn, 1) := dk_172 (dk_at dksX0_monthsOf_4 17 rfl rfl)
abbrev cX0_firstFalse : ByteArray := prog_1_method_39_code
def yX0_firstFalse : MethodName := ⟨RX0, "firstFalse", "(I[I)I"⟩
def dkwX0_firstFalse_2 : List UInt8 := [132, 3, 1, 167, 255, 232, 16, 247, 172]
abbrev dktX0_firstFalse_2 : List UInt8 := dkwX0_firstFalse_2 ++ []
def dkwX0_firstFalse_1 : List UInt8 := [62, 29, 44, 190, 162, 0, 24, 44, 29, 46, 42, 27, 29, 96, 182, 0, 135, 159, 0, 5, 29, 172]
abbrev dktX0_firstFalse_1 : List UInt8 := dkwX0_firstFalse_1 ++ dktX0_firstFalse_2
def dkwX0_firstFalse_0 : List UInt8 := [42, 180, 0, 61, 154, 0, 6, 16, 253, 172, 27, 44, 190, 96, 17, 7, 208, 164, 0, 6, 16, 254, 172, 3]
abbrev dktX0_firstFalse_0 : List UInt8 := dkwX0_firstFalse_0 ++ dktX0_firstFalse_1
theorem dksX0_firstFalse_0 : cX0_firstFalse.data.toList.drop 0 = dktX0_firstFalse_0 := by decide +kernel
theorem dksX0_firstFalse_1 : cX0_firstFalse.data.toList.drop 24 = dktX0_firstFalse_1 := dk_seg dksX0_firstFalse_0 24 rfl rfl
theorem dksX0_firstFalse_2 : cX0_firstFalse.data.toList.drop 46 = dktX0_firstFalse_2 := dk_seg dksX0_firstFalse_1 22 rfl rfl
theorem dX0_firstFalse_0 : decode cX0_firstFalse 0 = .ok (.aload_n 0, 1) := dk_42 (dk_at dksX0_firstFalse_0 0 rfl rfl)
theorem dX0_firstFalse_1 : decode cX0_firstFalse 1 = .ok (.getfield 61, 3) := dk_180 0 61 (dk_at dksX0_firstFalse_0 1 rfl rfl)
theorem dX0_firstFalse_4 : decode cX0_firstFalse 4 = .ok (.ifCond .ne 6, 3) := dk_154 0 6 (dk_at dksX0_firstFalse_0 4 rfl rfl)
theorem dX0_firstFalse_7 : decode cX0_firstFalse 7 = .ok (.bipush (-3), 2) := dk_16 253 (dk_at dksX0_firstFalse_0 7 rfl rfl)
theorem dX0_firstFalse_9 : decode cX0_firstFalse 9 = .ok (.ireturn, 1) := dk_172 (dk_at dksX0_firstFalse_0 9 rfl rfl)
theorem dX0_firstFalse_10 : decode cX0_firstFalse 10 = .ok (.iload_n 1, 1) := dk_27 (dk_at dksX0_firstFalse_0 10 rfl rfl)
theorem dX0_firstFalse_11 : decode cX0_firstFalse 11 = .ok (.aload_n 2, 1) := dk_44 (dk_at dksX0_firstFalse_0 11 rfl rfl)
theorem dX0_firstFalse_12 : decode cX0_firstFalse 12 = .ok (.arraylength, 1) := dk_190 (dk_at dksX0_firstFalse_0 12 rfl rfl)
theorem dX0_firstFalse_13 : decode cX0_firstFalse 13 = .ok (.iadd, 1) := dk_96 (dk_at dksX0_firstFalse_0 13 rfl rfl)
theorem dX0_firstFalse_14 : decode cX0_firstFalse 14 = .ok (.sipush 2000, 3) := dk_17 7 208 (dk_at dksX0_firstFalse_0 14 rfl rfl)
theorem dX0_firstFalse_17 : decode cX0_firstFalse 17 = .ok (.if_icmp .le 6, 3) := dk_164 0 6 (dk_at dksX0_firstFalse_0 17 rfl rfl)
theorem dX0_firstFalse_20 : decode cX0_firstFalse 20 = .ok (.bipush (-2), 2) := dk_16 254 (dk_at dksX0_firstFalse_0 20 rfl rfl)
theorem dX0_firstFalse_22 : decode cX0_firstFalse 22 = .ok (.ireturn, 1) := dk_172 (dk_at dksX0_firstFalse_0 22 rfl rfl)
theorem dX0_firstFalse_23 : decode cX0_firstFalse 23 = .ok (.iconst 0, 1) := dk_3 (dk_at dksX0_firstFalse_0 23 rfl rfl)
theorem dX0_firstFalse_24 : decode cX0_firstFalse 24 = .ok (.istore_n 3, 1) := dk_62 (dk_at dksX0_firstFalse_1 0 rfl rfl)
theorem dX0_firstFalse_25 : decode cX0_firstFalse 25 = .ok (.iload_n 3, 1) := dk_29 (dk_at dksX0_firstFalse_1 1 rfl rfl)
theorem dX0_firstFalse_26 : decode cX0_firstFalse 26 = .ok (.aload_n 2, 1) := dk_44 (dk_at dksX0_firstFalse_1 2 rfl rfl)
theorem dX0_firstFalse_27 : decode cX0_firstFalse 27 = .ok (.arraylength, 1) := dk_190 (dk_at dksX0_firstFalse_1 3 rfl rfl)
theorem dX0_firstFalse_28 : decode cX0_firstFalse 28 = .ok (.if_icmp .ge 24, 3) := dk_162 0 24 (dk_at dksX0_firstFalse_1 4 rfl rfl)
theorem dX0_firstFalse_31 : decode cX0_firstFalse 31 = .ok (.aload_n 2, 1) := dk_44 (dk_at dksX0_firstFalse_1 7 rfl rfl)
theorem dX0_firstFalse_32 : decode cX0_firstFalse 32 = .ok (.iload_n 3, 1) := dk_29 (dk_at dksX0_firstFalse_1 8 rfl rfl)
theorem dX0_firstFalse_33 : decode cX0_firstFalse 33 = .ok (.iaload, 1) := dk_46 (dk_at dksX0_firstFalse_1 9 rfl rfl)
theorem dX0_firstFalse_34 : decode cX0_firstFalse 34 = .ok (.aload_n 0, 1) := dk_42 (dk_at dksX0_firstFalse_1 10 rfl rfl)
theorem dX0_firstFalse_35 : decode cX0_firstFalse 35 = .ok (.iload_n 1, 1) := dk_27 (dk_at dksX0_firstFalse_1 11 rfl rfl)
theorem dX0_firstFalse_36 : decode cX0_firstFalse 36 = .ok (.iload_n 3, 1) := dk_29 (dk_at dksX0_firstFalse_1 12 rfl rfl)
theorem dX0_firstFalse_37 : decode cX0_firstFalse 37 = .ok (.iadd, 1) := dk_96 (dk_at dksX0_firstFalse_1 13 rfl rfl)
theorem dX0_firstFalse_38 : decode cX0_firstFalse 38 = .ok (.invokevirtual 135, 3) := dk_182 0 135 (dk_at dksX0_firstFalse_1 14 rfl rfl)
theorem dX0_firstFalse_41 : decode cX0_firstFalse 41 = .ok (.if_icmp .eq 5, 3) := dk_159 0 5 (dk_at dksX0_firstFalse_1 17 rfl rfl)
theorem dX0_firstFalse_44 : decode cX0_firstFalse 44 = .ok (.iload_n 3, 1) := dk_29 (dk_at dksX0_firstFalse_1 20 rfl rfl)
theorem dX0_firstFalse_45 : decode cX0_firstFalse 45 = .ok (.ireturn, 1) := dk_172 (dk_at dksX0_firstFalse_1 21 rfl rfl)
theorem dX0_firstFalse_46 : decode cX0_firstFalse 46 = .ok (.iinc 3 1, 3) := dk_132 3 1 (dk_at dksX0_firstFalse_2 0 rfl rfl)
theorem dX0_firstFalse_49 : decode cX0_firstFalse 49 = .ok (.goto (-24), 3) := dk_167 255 232 (dk_at dksX0_firstFalse_2 3 rfl rfl)
theorem dX0_firstFalse_52 : decode cX0_firstFalse 52 = .ok (.bipush (-9), 2) := dk_16 247 (dk_at dksX0_firstFalse_2 6 rfl rfl)
theorem dX0_firstFalse_54 : decode cX0_firstFalse 54 = .ok (.ireturn, 1) := dk_172 (dk_at dksX0_firstFalse_2 8 rfl rfl)
abbrev cX0_newSea : ByteArray := prog_1_method_10_code
def yX0_newSea : MethodName := ⟨RX0, "newSea", "([I)I"⟩
def dkwX0_newSea_11 : List UInt8 := [185, 0, 101, 1, 0, 42, 180, 0, 24, 185, 0, 65, 1, 0, 172]
abbrev dktX0_newSea_11 : List UInt8 := dkwX0_newSea_11 ++ []
def dkwX0_newSea_10 : List UInt8 := [185, 0, 101, 1, 0, 42, 180, 0, 24, 45, 185, 0, 104, 2, 0, 87, 42, 180, 0, 28]
abbrev dktX0_newSea_10 : List UInt8 := dkwX0_newSea_10 ++ dktX0_newSea_11
def dkwX0_newSea_9 : List UInt8 := [183, 0, 94, 185, 0, 97, 2, 0, 87, 132, 4, 7, 167, 255, 87, 42, 28, 181, 0, 61, 42, 180, 0, 24]
abbrev dktX0_newSea_9 : List UInt8 := dkwX0_newSea_9 ++ dktX0_newSea_10
def dkwX0_newSea_8 : List UInt8 := [21, 7, 156, 0, 9, 16, 157, 21, 7, 96, 172, 45, 187, 0, 92, 89, 21, 5, 21, 6, 21, 7]
abbrev dktX0_newSea_8 : List UInt8 := dkwX0_newSea_8 ++ dktX0_newSea_9
def dkwX0_newSea_7 : List UInt8 := [162, 0, 9, 16, 152, 21, 4, 100, 172, 43, 21, 4, 8, 96, 3, 21, 5, 4, 100, 184, 0, 88, 54, 7]
abbrev dktX0_newSea_7 : List UInt8 := dkwX0_newSea_7 ++ dktX0_newSea_8
def dkwX0_newSea_6 : List UInt8 := [21, 5, 156, 0, 9, 16, 157, 21, 5, 96, 172, 43, 21, 4, 7, 96, 184, 0, 73, 54, 6, 21, 6, 4]
abbrev dktX0_newSea_6 : List UInt8 := dkwX0_newSea_6 ++ dktX0_newSea_7
def dkwX0_newSea_5 : List UInt8 := [16, 109, 159, 0, 9, 16, 155, 21, 4, 100, 172, 43, 21, 4, 5, 96, 5, 16, 30, 184, 0, 88, 54, 5]
abbrev dktX0_newSea_5 : List UInt8 := dkwX0_newSea_5 ++ dktX0_newSea_6
def dkwX0_newSea_4 : List UInt8 := [159, 0, 9, 16, 156, 21, 4, 100, 172, 21, 4, 4, 96, 43, 190, 162, 0, 14, 43, 21, 4, 4, 96, 46]
abbrev dktX0_newSea_4 : List UInt8 := dkwX0_newSea_4 ++ dktX0_newSea_5
def dkwX0_newSea_3 : List UInt8 := [185, 0, 65, 1, 0, 6, 159, 0, 19, 21, 4, 43, 190, 162, 0, 12, 43, 21, 4, 46, 16, 59]
abbrev dktX0_newSea_3 : List UInt8 := dkwX0_newSea_3 ++ dktX0_newSea_4
def dkwX0_newSea_2 : List UInt8 := [5, 54, 4, 45, 185, 0, 84, 1, 0, 154, 0, 10, 21, 4, 43, 190, 162, 0, 159, 45]
abbrev dktX0_newSea_2 : List UInt8 := dkwX0_newSea_2 ++ dktX0_newSea_3
def dkwX0_newSea_1 : List UInt8 := [20, 0, 77, 20, 0, 79, 184, 0, 11, 154, 0, 6, 16, 155, 172, 187, 0, 21, 89, 6, 183, 0, 81, 78]
abbrev dktX0_newSea_1 : List UInt8 := dkwX0_newSea_1 ++ dktX0_newSea_2
def dkwX0_newSea_0 : List UInt8 := [43, 190, 153, 0, 11, 43, 3, 46, 16, 115, 159, 0, 6, 16, 156, 172, 43, 4, 184, 0, 73, 61, 28, 133]
abbrev dktX0_newSea_0 : List UInt8 := dkwX0_newSea_0 ++ dktX0_newSea_1
theorem dksX0_newSea_0 : cX0_newSea.data.toList.drop 0 = dktX0_newSea_0 := by decide +kernel
theorem dksX0_newSea_1 : cX0_newSea.data.toList.drop 24 = dktX0_newSea_1 := dk_seg dksX0_newSea_0 24 rfl rfl
theorem dksX0_newSea_2 : cX0_newSea.data.toList.drop 48 = dktX0_newSea_2 := dk_seg dksX0_newSea_1 24 rfl rfl
theorem dksX0_newSea_3 : cX0_newSea.data.toList.drop 68 = dktX0_newSea_3 := dk_seg dksX0_newSea_2 20 rfl rfl
theorem dksX0_newSea_4 : cX0_newSea.data.toList.drop 90 = dktX0_newSea_4 := dk_seg dksX0_newSea_3 22 rfl rfl
theorem dksX0_newSea_5 : cX0_newSea.data.toList.drop 114 = dktX0_newSea_5 := dk_seg dksX0_newSea_4 24 rfl rfl
theorem dksX0_newSea_6 : cX0_newSea.data.toList.drop 138 = dktX0_newSea_6 := dk_seg dksX0_newSea_5 24 rfl rfl
theorem dksX0_newSea_7 : cX0_newSea.data.toList.drop 162 = dktX0_newSea_7 := dk_seg dksX0_newSea_6 24 rfl rfl
theorem dksX0_newSea_8 : cX0_newSea.data.toList.drop 186 = dktX0_newSea_8 := dk_seg dksX0_newSea_7 24 rfl rfl
theorem dksX0_newSea_9 : cX0_newSea.data.toList.drop 208 = dktX0_newSea_9 := dk_seg dksX0_newSea_8 22 rfl rfl
theorem dksX0_newSea_10 : cX0_newSea.data.toList.drop 232 = dktX0_newSea_10 := dk_seg dksX0_newSea_9 24 rfl rfl
theorem dksX0_newSea_11 : cX0_newSea.data.toList.drop 252 = dktX0_newSea_11 := dk_seg dksX0_newSea_10 20 rfl rfl
theorem dX0_newSea_0 : decode cX0_newSea 0 = .ok (.aload_n 1, 1) := dk_43 (dk_at dksX0_newSea_0 0 rfl rfl)
theorem dX0_newSea_1 : decode cX0_newSea 1 = .ok (.arraylength, 1) := dk_190 (dk_at dksX0_newSea_0 1 rfl rfl)
theorem dX0_newSea_2 : decode cX0_newSea 2 = .ok (.ifCond .eq 11, 3) := dk_153 0 11 (dk_at dksX0_newSea_0 2 rfl rfl)
theorem dX0_newSea_5 : decode cX0_newSea 5 = .ok (.aload_n 1, 1) := dk_43 (dk_at dksX0_newSea_0 5 rfl rfl)
theorem dX0_newSea_6 : decode cX0_newSea 6 = .ok (.iconst 0, 1) := dk_3 (dk_at dksX0_newSea_0 6 rfl rfl)
theorem dX0_newSea_7 : decode cX0_newSea 7 = .ok (.iaload, 1) := dk_46 (dk_at dksX0_newSea_0 7 rfl rfl)
theorem dX0_newSea_8 : decode cX0_newSea 8 = .ok (.bipush 115, 2) := dk_16 115 (dk_at dksX0_newSea_0 8 rfl rfl)
theorem dX0_newSea_10 : decode cX0_newSea 10 = .ok (.if_icmp .eq 6, 3) := dk_159 0 6 (dk_at dksX0_newSea_0 10 rfl rfl)
theorem dX0_newSea_13 : decode cX0_newSea 13 = .ok (.bipush (-100), 2) := dk_16 156 (dk_at dksX0_newSea_0 13 rfl rfl)
theorem dX0_newSea_15 : decode cX0_newSea 15 = .ok (.ireturn, 1) := dk_172 (dk_at dksX0_newSea_0 15 rfl rfl)
theorem dX0_newSea_16 : decode cX0_newSea 16 = .ok (.aload_n 1, 1) := dk_43 (dk_at dksX0_newSea_0 16 rfl rfl)
theorem dX0_newSea_17 : decode cX0_newSea 17 = .ok (.iconst 1, 1) := dk_4 (dk_at dksX0_newSea_0 17 rfl rfl)
theorem dX0_newSea_18 : decode cX0_newSea 18 = .ok (.invokestatic 73, 3) := dk_184 0 73 (dk_at dksX0_newSea_0 18 rfl rfl)
theorem dX0_newSea_21 : decode cX0_newSea 21 = .ok (.istore_n 2, 1) := dk_61 (dk_at dksX0_newSea_0 21 rfl rfl)
theorem dX0_newSea_22 : decode cX0_newSea 22 = .ok (.iload_n 2, 1) := dk_28 (dk_at dksX0_newSea_0 22 rfl rfl)
theorem dX0_newSea_23 : decode cX0_newSea 23 = .ok (.i2l, 1) := dk_133 (dk_at dksX0_newSea_0 23 rfl rfl)
theorem dX0_newSea_24 : decode cX0_newSea 24 = .ok (.ldc2_w 77, 3) := dk_20 0 77 (dk_at dksX0_newSea_1 0 rfl rfl)
theorem dX0_newSea_27 : decode cX0_newSea 27 = .ok (.ldc2_w 79, 3) := dk_20 0 79 (dk_at dksX0_newSea_1 3 rfl rfl)
theorem dX0_newSea_30 : decode cX0_newSea 30 = .ok (.invokestatic 11, 3) := dk_184 0 11 (dk_at dksX0_newSea_1 6 rfl rfl)
theorem dX0_newSea_33 : decode cX0_newSea 33 = .ok (.ifCond .ne 6, 3) := dk_154 0 6 (dk_at dksX0_newSea_1 9 rfl rfl)
theorem dX0_newSea_36 : decode cX0_newSea 36 = .ok (.bipush (-101), 2) := dk_16 155 (dk_at dksX0_newSea_1 12 rfl rfl)
theorem dX0_newSea_38 : decode cX0_newSea 38 = .ok (.ireturn, 1) := dk_172 (dk_at dksX0_newSea_1 14 rfl rfl)
theorem dX0_newSea_39 : decode cX0_newSea 39 = .ok (.new 21, 3) := dk_187 0 21 (dk_at dksX0_newSea_1 15 rfl rfl)
theorem dX0_newSea_42 : decode cX0_newSea 42 = .ok (.dup, 1) := dk_89 (dk_at dksX0_newSea_1 18 rfl rfl)
theorem dX0_newSea_43 : decode cX0_newSea 43 = .ok (.iconst 3, 1) := dk_6 (dk_at dksX0_newSea_1 19 rfl rfl)
theorem dX0_newSea_44 : decode cX0_newSea 44 = .ok (.invokespecial 81, 3) := dk_183 0 81 (dk_at dksX0_newSea_1 20 rfl rfl)
theorem dX0_newSea_47 : decode cX0_newSea 47 = .ok (.astore_n 3, 1) := dk_78 (dk_at dksX0_newSea_1 23 rfl rfl)
theorem dX0_newSea_48 : decode cX0_newSea 48 = .ok (.iconst 2, 1) := dk_5 (dk_at dksX0_newSea_2 0 rfl rfl)
theorem dX0_newSea_49 : decode cX0_newSea 49 = .ok (.istore 4, 2) := dk_54 4 (dk_at dksX0_newSea_2 1 rfl rfl)
theorem dX0_newSea_51 : decode cX0_newSea 51 = .ok (.aload_n 3, 1) := dk_45 (dk_at dksX0_newSea_2 3 rfl rfl)
theorem dX0_newSea_52 : decode cX0_newSea 52 = .ok (.invokeinterface 84 1, 5) := by decide +kernel
theorem dX0_newSea_57 : decode cX0_newSea 57 = .ok (.ifCond .ne 10, 3) := dk_154 0 10 (dk_at dksX0_newSea_2 9 rfl rfl)
theorem dX0_newSea_60 : decode cX0_newSea 60 = .ok (.iload 4, 2) := dk_21 4 (dk_at dksX0_newSea_2 12 rfl rfl)
theorem dX0_newSea_62 : decode cX0_newSea 62 = .ok (.aload_n 1, 1) := dk_43 (dk_at dksX0_newSea_2 14 rfl rfl)
theorem dX0_newSea_63 : decode cX0_newSea 63 = .ok (.arraylength, 1) := dk_190 (dk_at dksX0_newSea_2 15 rfl rfl)
theorem dX0_newSea_64 : decode cX0_newSea 64 = .ok (.if_icmp .ge 159, 3) := dk_162 0 159 (dk_at dksX0_newSea_2 16 rfl rfl)
theorem dX0_newSea_67 : decode cX0_newSea 67 = .ok (.aload_n 3, 1) := dk_45 (dk_at dksX0_newSea_2 19 rfl rfl)
theorem dX0_newSea_68 : decode cX0_newSea 68 = .ok (.invokeinterface 65 1, 5) := by decide +kernel
theorem dX0_newSea_73 : decode cX0_newSea 73 = .ok (.iconst 3, 1) := dk_6 (dk_at dksX0_newSea_3 5 rfl rfl)
theorem dX0_newSea_74 : decode cX0_newSea 74 = .ok (.if_icmp .eq 19, 3) := dk_159 0 19 (dk_at dksX0_newSea_3 6 rfl rfl)
theorem dX0_newSea_77 : decode cX0_newSea 77 = .ok (.iload 4, 2) := dk_21 4 (dk_at dksX0_newSea_3 9 rfl rfl)
theorem dX0_newSea_79 : decode cX0_newSea 79 = .ok (.aload_n 1, 1) := dk_43 (dk_at dksX0_newSea_3 11 rfl rfl)
theorem dX0_newSea_80 : decode cX0_newSea 80 = .ok (.arraylength, 1) := dk_190 (dk_at dksX0_newSea_3 12 rfl rfl)
theorem dX0_newSea_81 : decode cX0_newSea 81 = .ok (.if_icmp .ge 12, 3) := dk_162 0 12 (dk_at dksX0_newSea_3 13 rfl rfl)
theorem dX0_newSea_84 : decode cX0_newSea 84 = .ok (.aload_n 1, 1) := dk_43 (dk_at dksX0_newSea_3 16 rfl rfl)
theorem dX0_newSea_85 : decode cX0_newSea 85 = .ok (.iload 4, 2) := dk_21 4 (dk_at dksX0_newSea_3 17 rfl rfl)
theorem dX0_newSea_87 : decode cX0_newSea 87 = .ok (.iaload, 1) := dk_46 (dk_at dksX0_newSea_3 19 rfl rfl)
theorem dX0_newSea_88 : decode cX0_newSea 88 = .ok (.bipush 59, 2) := dk_16 59 (dk_at dksX0_newSea_3 20 rfl rfl)
theorem dX0_newSea_90 : decode cX0_newSea 90 = .ok (.if_icmp .eq 9, 3) := dk_159 0 9 (dk_at dksX0_newSea_4 0 rfl rfl)
theorem dX0_newSea_93 : decode cX0_newSea 93 = .ok (.bipush (-100), 2) := dk_16 156 (dk_at dksX0_newSea_4 3 rfl rfl)
theorem dX0_newSea_95 : decode cX0_newSea 95 = .ok (.iload 4, 2) := dk_21 4 (dk_at dksX0_newSea_4 5 rfl rfl)
theorem dX0_newSea_97 : decode cX0_newSea 97 = .ok (.isub, 1) := dk_100 (dk_at dksX0_newSea_4 7 rfl rfl)
theorem dX0_newSea_98 : decode cX0_newSea 98 = .ok (.ireturn, 1) := dk_172 (dk_at dksX0_newSea_4 8 rfl rfl)
theorem dX0_newSea_99 : decode cX0_newSea 99 = .ok (.iload 4, 2) := dk_21 4 (dk_at dksX0_newSea_4 9 rfl rfl)
theorem dX0_newSea_101 : decode cX0_newSea 101 = .ok (.iconst 1, 1) := dk_4 (dk_at dksX0_newSea_4 11 rfl rfl)
theorem dX0_newSea_102 : decode cX0_newSea 102 = .ok (.iadd, 1) := dk_96 (dk_at dksX0_newSea_4 12 rfl rfl)
theorem dX0_newSea_103 : decode cX0_newSea 103 = .ok (.aload_n 1, 1) := dk_43 (dk_at dksX0_newSea_4 13 rfl rfl)
theorem dX0_newSea_104 : decode cX0_newSea 104 = .ok (.arraylength, 1) := dk_190 (dk_at dksX0_newSea_4 14 rfl rfl)
theorem dX0_newSea_105 : decode cX0_newSea 105 = .ok (.if_icmp .ge 14, 3) := dk_162 0 14 (dk_at dksX0_newSea_4 15 rfl rfl)
theorem dX0_newSea_108 : decode cX0_newSea 108 = .ok (.aload_n 1, 1) := dk_43 (dk_at dksX0_newSea_4 18 rfl rfl)
theorem dX0_newSea_109 : decode cX0_newSea 109 = .ok (.iload 4, 2) := dk_21 4 (dk_at dksX0_newSea_4 19 rfl rfl)
theorem dX0_newSea_111 : decode cX0_newSea 111 = .ok (.iconst 1, 1) := dk_4 (dk_at dksX0_newSea_4 21 rfl rfl)
theorem dX0_newSea_112 : decode cX0_newSea 112 = .ok (.iadd, 1) := dk_96 (dk_at dksX0_newSea_4 22 rfl rfl)
theorem dX0_newSea_113 : decode cX0_newSea 113 = .ok (.iaload, 1) := dk_46 (dk_at dksX0_newSea_4 23 rfl rfl)
theorem dX0_newSea_114 : decode cX0_newSea 114 = .ok (.bipush 109, 2) := dk_16 109 (dk_at dksX0_newSea_5 0 rfl rfl)
theorem dX0_newSea_116 : decode cX0_newSea 116 = .ok (.if_icmp .eq 9, 3) := dk_159 0 9 (dk_at dksX0_newSea_5 2 rfl rfl)
theorem dX0_newSea_119 : decode cX0_newSea 119 = .ok (.bipush (-101), 2) := dk_16 155 (dk_at dksX0_newSea_5 5 rfl rfl)
theorem dX0_newSea_121 : decode cX0_newSea 121 = .ok (.iload 4, 2) := dk_21 4 (dk_at dksX0_newSea_5 7 rfl rfl)
theorem dX0_newSea_123 : decode cX0_newSea 123 = .ok (.isub, 1) := dk_100 (dk_at dksX0_newSea_5 9 rfl rfl)
theorem dX0_newSea_124 : decode cX0_newSea 124 = .ok (.ireturn, 1) := dk_172 (dk_at dksX0_newSea_5 10 rfl rfl)
theorem dX0_newSea_125 : decode cX0_newSea 125 = .ok (.aload_n 1, 1) := dk_43 (dk_at dksX0_newSea_5 11 rfl rfl)
theorem dX0_newSea_126 : decode cX0_newSea 126 = .ok (.iload 4, 2) := dk_21 4 (dk_at dksX0_newSea_5 12 rfl rfl)
theorem dX0_newSea_128 : decode cX0_newSea 128 = .ok (.iconst 2, 1) := dk_5 (dk_at dksX0_newSea_5 14 rfl rfl)
theorem dX0_newSea_129 : decode cX0_newSea 129 = .ok (.iadd, 1) := dk_96 (dk_at dksX0_newSea_5 15 rfl rfl)
theorem dX0_newSea_130 : decode cX0_newSea 130 = .ok (.iconst 2, 1) := dk_5 (dk_at dksX0_newSea_5 16 rfl rfl)
theorem dX0_newSea_131 : decode cX0_newSea 131 = .ok (.bipush 30, 2) := dk_16 30 (dk_at dksX0_newSea_5 17 rfl rfl)
theorem dX0_newSea_133 : decode cX0_newSea 133 = .ok (.invokestatic 88, 3) := dk_184 0 88 (dk_at dksX0_newSea_5 19 rfl rfl)
theorem dX0_newSea_136 : decode cX0_newSea 136 = .ok (.istore 5, 2) := dk_54 5 (dk_at dksX0_newSea_5 22 rfl rfl)
theorem dX0_newSea_138 : decode cX0_newSea 138 = .ok (.iload 5, 2) := dk_21 5 (dk_at dksX0_newSea_6 0 rfl rfl)
theorem dX0_newSea_140 : decode cX0_newSea 140 = .ok (.ifCond .ge 9, 3) := dk_156 0 9 (dk_at dksX0_newSea_6 2 rfl rfl)
theorem dX0_newSea_143 : decode cX0_newSea 143 = .ok (.bipush (-99), 2) := dk_16 157 (dk_at dksX0_newSea_6 5 rfl rfl)
theorem dX0_newSea_145 : decode cX0_newSea 145 = .ok (.iload 5, 2) := dk_21 5 (dk_at dksX0_newSea_6 7 rfl rfl)
theorem dX0_newSea_147 : decode cX0_newSea 147 = .ok (.iadd, 1) := dk_96 (dk_at dksX0_newSea_6 9 rfl rfl)
theorem dX0_newSea_148 : decode cX0_newSea 148 = .ok (.ireturn, 1) := dk_172 (dk_at dksX0_newSea_6 10 rfl rfl)
theorem dX0_newSea_149 : decode cX0_newSea 149 = .ok (.aload_n 1, 1) := dk_43 (dk_at dksX0_newSea_6 11 rfl rfl)
theorem dX0_newSea_150 : decode cX0_newSea 150 = .ok (.iload 4, 2) := dk_21 4 (dk_at dksX0_newSea_6 12 rfl rfl)
theorem dX0_newSea_152 : decode cX0_newSea 152 = .ok (.iconst 4, 1) := dk_7 (dk_at dksX0_newSea_6 14 rfl rfl)
theorem dX0_newSea_153 : decode cX0_newSea 153 = .ok (.iadd, 1) := dk_96 (dk_at dksX0_newSea_6 15 rfl rfl)
theorem dX0_newSea_154 : decode cX0_newSea 154 = .ok (.invokestatic 73, 3) := dk_184 0 73 (dk_at dksX0_newSea_6 16 rfl rfl)
theorem dX0_newSea_157 : decode cX0_newSea 157 = .ok (.istore 6, 2) := dk_54 6 (dk_at dksX0_newSea_6 19 rfl rfl)
theorem dX0_newSea_159 : decode cX0_newSea 159 = .ok (.iload 6, 2) := dk_21 6 (dk_at dksX0_newSea_6 21 rfl rfl)
theorem dX0_newSea_161 : decode cX0_newSea 161 = .ok (.iconst 1, 1) := dk_4 (dk_at dksX0_newSea_6 23 rfl rfl)
theorem dX0_newSea_162 : decode cX0_newSea 162 = .ok (.if_icmp .ge 9, 3) := dk_162 0 9 (dk_at dksX0_newSea_7 0 rfl rfl)
theorem dX0_newSea_165 : decode cX0_newSea 165 = .ok (.bipush (-104), 2) := dk_16 152 (dk_at dksX0_newSea_7 3 rfl rfl)
theorem dX0_newSea_167 : decode cX0_newSea 167 = .ok (.iload 4, 2) := dk_21 4 (dk_at dksX0_newSea_7 5 rfl rfl)
theorem dX0_newSea_169 : decode cX0_newSea 169 = .ok (.isub, 1) := dk_100 (dk_at dksX0_newSea_7 7 rfl rfl)
theorem dX0_newSea_170 : decode cX0_newSea 170 = .ok (.ireturn, 1) := dk_172 (dk_at dksX0_newSea_7 8 rfl rfl)
theorem dX0_newSea_171 : decode cX0_newSea 171 = .ok (.aload_n 1, 1) := dk_43 (dk_at dksX0_newSea_7 9 rfl rfl)
theorem dX0_newSea_172 : decode cX0_newSea 172 = .ok (.iload 4, 2) := dk_21 4 (dk_at dksX0_newSea_7 10 rfl rfl)
theorem dX0_newSea_174 : decode cX0_newSea 174 = .ok (.iconst 5, 1) := dk_8 (dk_at dksX0_newSea_7 12 rfl rfl)
theorem dX0_newSea_175 : decode cX0_newSea 175 = .ok (.iadd, 1) := dk_96 (dk_at dksX0_newSea_7 13 rfl rfl)
theorem dX0_newSea_176 : decode cX0_newSea 176 = .ok (.iconst 0, 1) := dk_3 (dk_at dksX0_newSea_7 14 rfl rfl)
theorem dX0_newSea_177 : decode cX0_newSea 177 = .ok (.iload 5, 2) := dk_21 5 (dk_at dksX0_newSea_7 15 rfl rfl)
theorem dX0_newSea_179 : decode cX0_newSea 179 = .ok (.iconst 1, 1) := dk_4 (dk_at dksX0_newSea_7 17 rfl rfl)
theorem dX0_newSea_180 : decode cX0_newSea 180 = .ok (.isub, 1) := dk_100 (dk_at dksX0_newSea_7 18 rfl rfl)
theorem dX0_newSea_181 : decode cX0_newSea 181 = .ok (.invokestatic 88, 3) := dk_184 0 88 (dk_at dksX0_newSea_7 19 rfl rfl)
theorem dX0_newSea_184 : decode cX0_newSea 184 = .ok (.istore 7, 2) := dk_54 7 (dk_at dksX0_newSea_7 22 rfl rfl)
theorem dX0_newSea_186 : decode cX0_newSea 186 = .ok (.iload 7, 2) := dk_21 7 (dk_at dksX0_newSea_8 0 rfl rfl)
theorem dX0_newSea_188 : decode cX0_newSea 188 = .ok (.ifCond .ge 9, 3) := dk_156 0 9 (dk_at dksX0_newSea_8 2 rfl rfl)
theorem dX0_newSea_191 : decode cX0_newSea 191 = .ok (.bipush (-99), 2) := dk_16 157 (dk_at dksX0_newSea_8 5 rfl rfl)
theorem dX0_newSea_193 : decode cX0_newSea 193 = .ok (.iload 7, 2) := dk_21 7 (dk_at dksX0_newSea_8 7 rfl rfl)
theorem dX0_newSea_195 : decode cX0_newSea 195 = .ok (.iadd, 1) := dk_96 (dk_at dksX0_newSea_8 9 rfl rfl)
theorem dX0_newSea_196 : decode cX0_newSea 196 = .ok (.ireturn, 1) := dk_172 (dk_at dksX0_newSea_8 10 rfl rfl)
theorem dX0_newSea_197 : decode cX0_newSea 197 = .ok (.aload_n 3, 1) := dk_45 (dk_at dksX0_newSea_8 11 rfl rfl)
theorem dX0_newSea_198 : decode cX0_newSea 198 = .ok (.new 92, 3) := dk_187 0 92 (dk_at dksX0_newSea_8 12 rfl rfl)
theorem dX0_newSea_201 : decode cX0_newSea 201 = .ok (.dup, 1) := dk_89 (dk_at dksX0_newSea_8 15 rfl rfl)
theorem dX0_newSea_202 : decode cX0_newSea 202 = .ok (.iload 5, 2) := dk_21 5 (dk_at dksX0_newSea_8 16 rfl rfl)
theorem dX0_newSea_204 : decode cX0_newSea 204 = .ok (.iload 6, 2) := dk_21 6 (dk_at dksX0_newSea_8 18 rfl rfl)
theorem dX0_newSea_206 : decode cX0_newSea 206 = .ok (.iload 7, 2) := dk_21 7 (dk_at dksX0_newSea_8 20 rfl rfl)
theorem dX0_newSea_208 : decode cX0_newSea 208 = .ok (.invokespecial 94, 3) := dk_183 0 94 (dk_at dksX0_newSea_9 0 rfl rfl)
theorem dX0_newSea_211 : decode cX0_newSea 211 = .ok (.invokeinterface 97 2, 5) := by decide +kernel
theorem dX0_newSea_216 : decode cX0_newSea 216 = .ok (.pop, 1) := dk_87 (dk_at dksX0_newSea_9 8 rfl rfl)
theorem dX0_newSea_217 : decode cX0_newSea 217 = .ok (.iinc 4 7, 3) := dk_132 4 7 (dk_at dksX0_newSea_9 9 rfl rfl)
theorem dX0_newSea_220 : decode cX0_newSea 220 = .ok (.goto (-169), 3) := dk_167 255 87 (dk_at dksX0_newSea_9 12 rfl rfl)
theorem dX0_newSea_223 : decode cX0_newSea 223 = .ok (.aload_n 0, 1) := dk_42 (dk_at dksX0_newSea_9 15 rfl rfl)
theorem dX0_newSea_224 : decode cX0_newSea 224 = .ok (.iload_n 2, 1) := dk_28 (dk_at dksX0_newSea_9 16 rfl rfl)
theorem dX0_newSea_225 : decode cX0_newSea 225 = .ok (.putfield 61, 3) := dk_181 0 61 (dk_at dksX0_newSea_9 17 rfl rfl)
theorem dX0_newSea_228 : decode cX0_newSea 228 = .ok (.aload_n 0, 1) := dk_42 (dk_at dksX0_newSea_9 20 rfl rfl)
theorem dX0_newSea_229 : decode cX0_newSea 229 = .ok (.getfield 24, 3) := dk_180 0 24 (dk_at dksX0_newSea_9 21 rfl rfl)
theorem dX0_newSea_232 : decode cX0_newSea 232 = .ok (.invokeinterface 101 1, 5) := by decide +kernel
theorem dX0_newSea_237 : decode cX0_newSea 237 = .ok (.aload_n 0, 1) := dk_42 (dk_at dksX0_newSea_10 5 rfl rfl)
theorem dX0_newSea_238 : decode cX0_newSea 238 = .ok (.getfield 24, 3) := dk_180 0 24 (dk_at dksX0_newSea_10 6 rfl rfl)
theorem dX0_newSea_241 : decode cX0_newSea 241 = .ok (.aload_n 3, 1) := dk_45 (dk_at dksX0_newSea_10 9 rfl rfl)
theorem dX0_newSea_242 : decode cX0_newSea 242 = .ok (.invokeinterface 104 2, 5) := by decide +kernel
theorem dX0_newSea_247 : decode cX0_newSea 247 = .ok (.pop, 1) := dk_87 (dk_at dksX0_newSea_10 15 rfl rfl)
theorem dX0_newSea_248 : decode cX0_newSea 248 = .ok (.aload_n 0, 1) := dk_42 (dk_at dksX0_newSea_10 16 rfl rfl)
theorem dX0_newSea_249 : decode cX0_newSea 249 = .ok (.getfield 28, 3) := dk_180 0 28 (dk_at dksX0_newSea_10 17 rfl rfl)
theorem dX0_newSea_252 : decode cX0_newSea 252 = .ok (.invokeinterface 101 1, 5) := by decide +kernel
theorem dX0_newSea_257 : decode cX0_newSea 257 = .ok (.aload_n 0, 1) := dk_42 (dk_at dksX0_newSea_11 5 rfl rfl)
theorem dX0_newSea_258 : decode cX0_newSea 258 = .ok (.getfield 24, 3) := dk_180 0 24 (dk_at dksX0_newSea_11 6 rfl rfl)
theorem dX0_newSea_261 : decode cX0_newSea 261 = .ok (.invokeinterface 65 1, 5) := by decide +kernel
theorem dX0_newSea_266 : decode cX0_newSea 266 = .ok (.ireturn, 1) := dk_172 (dk_at dksX0_newSea_11 14 rfl rfl)
abbrev cX0_digitAt : ByteArray := prog_1_method_8_code
def yX0_digitAt : MethodName := ⟨RX0, "digitAt", "([II)I"⟩
def dkwX0_digitAt_1 : List UInt8 := [184, 0, 11, 153, 0, 7, 28, 167, 0, 5, 16, 247, 172]
abbrev dktX0_digitAt_1 : List UInt8 := dkwX0_digitAt_1 ++ []
def dkwX0_digitAt_0 : List UInt8 := [27, 42, 190, 162, 0, 12, 42, 27, 46, 16, 48, 100, 167, 0, 5, 16, 247, 61, 28, 133, 9, 20, 0, 71]
abbrev dktX0_digitAt_0 : List UInt8 := dkwX0_digitAt_0 ++ dktX0_digitAt_1
theorem dksX0_digitAt_0 : cX0_digitAt.data.toList.drop 0 = dktX0_digitAt_0 := by decide +kernel
theorem dksX0_digitAt_1 : cX0_digitAt.data.toList.drop 24 = dktX0_digitAt_1 := dk_seg dksX0_digitAt_0 24 rfl rfl
theorem dX0_digitAt_0 : decode cX0_digitAt 0 = .ok (.iload_n 1, 1) := dk_27 (dk_at dksX0_digitAt_0 0 rfl rfl)
theorem dX0_digitAt_1 : decode cX0_digitAt 1 = .ok (.aload_n 0, 1) := dk_42 (dk_at dksX0_digitAt_0 1 rfl rfl)
theorem dX0_digitAt_2 : decode cX0_digitAt 2 = .ok (.arraylength, 1) := dk_190 (dk_at dksX0_digitAt_0 2 rfl rfl)
theorem dX0_digitAt_3 : decode cX0_digitAt 3 = .ok (.if_icmp .ge 12, 3) := dk_162 0 12 (dk_at dksX0_digitAt_0 3 rfl rfl)
theorem dX0_digitAt_6 : decode cX0_digitAt 6 = .ok (.aload_n 0, 1) := dk_42 (dk_at dksX0_digitAt_0 6 rfl rfl)
theorem dX0_digitAt_7 : decode cX0_digitAt 7 = .ok (.iload_n 1, 1) := dk_27 (dk_at dksX0_digitAt_0 7 rfl rfl)
theorem dX0_digitAt_8 : decode cX0_digitAt 8 = .ok (.iaload, 1) := dk_46 (dk_at dksX0_digitAt_0 8 rfl rfl)
theorem dX0_digitAt_9 : decode cX0_digitAt 9 = .ok (.bipush 48, 2) := dk_16 48 (dk_at dksX0_digitAt_0 9 rfl rfl)
theorem dX0_digitAt_11 : decode cX0_digitAt 11 = .ok (.isub, 1) := dk_100 (dk_at dksX0_digitAt_0 11 rfl rfl)
theorem dX0_digitAt_12 : decode cX0_digitAt 12 = .ok (.goto 5, 3) := dk_167 0 5 (dk_at dksX0_digitAt_0 12 rfl rfl)
theorem dX0_digitAt_15 : decode cX0_digitAt 15 = .ok (.bipush (-9), 2) := dk_16 247 (dk_at dksX0_digitAt_0 15 rfl rfl)
theorem dX0_digitAt_17 : decode cX0_digitAt 17 = .ok (.istore_n 2, 1) := dk_61 (dk_at dksX0_digitAt_0 17 rfl rfl)
theorem dX0_digitAt_18 : decode cX0_digitAt 18 = .ok (.iload_n 2, 1) := dk_28 (dk_at dksX0_digitAt_0 18 rfl rfl)
theorem dX0_digitAt_19 : decode cX0_digitAt 19 = .ok (.i2l, 1) := dk_133 (dk_at dksX0_digitAt_0 19 rfl rfl)
theorem dX0_digitAt_20 : decode cX0_digitAt 20 = .ok (.lconst 0, 1) := dk_9 (dk_at dksX0_digitAt_0 20 rfl rfl)
theorem dX0_digitAt_21 : decode cX0_digitAt 21 = .ok (.ldc2_w 71, 3) := dk_20 0 71 (dk_at dksX0_digitAt_0 21 rfl rfl)
theorem dX0_digitAt_24 : decode cX0_digitAt 24 = .ok (.invokestatic 11, 3) := dk_184 0 11 (dk_at dksX0_digitAt_1 0 rfl rfl)
theorem dX0_digitAt_27 : decode cX0_digitAt 27 = .ok (.ifCond .eq 7, 3) := dk_153 0 7 (dk_at dksX0_digitAt_1 3 rfl rfl)
theorem dX0_digitAt_30 : decode cX0_digitAt 30 = .ok (.iload_n 2, 1) := dk_28 (dk_at dksX0_digitAt_1 6 rfl rfl)
theorem dX0_digitAt_31 : decode cX0_digitAt 31 = .ok (.goto 5, 3) := dk_167 0 5 (dk_at dksX0_digitAt_1 7 rfl rfl)
theorem dX0_digitAt_34 : decode cX0_digitAt 34 = .ok (.bipush (-9), 2) := dk_16 247 (dk_at dksX0_digitAt_1 10 rfl rfl)
theorem dX0_digitAt_36 : decode cX0_digitAt 36 = .ok (.ireturn, 1) := dk_172 (dk_at dksX0_digitAt_1 12 rfl rfl)
abbrev cX0_twoAt : ByteArray := prog_1_method_9_code
def yX0_twoAt : MethodName := ⟨RX0, "twoAt", "([IIII)I"⟩
def dkwX0_twoAt_3 : List UInt8 := [184, 0, 11, 153, 0, 14, 16, 10, 21, 4, 104, 21, 5, 96, 167, 0, 6, 2, 27, 100, 172]
abbrev dktX0_twoAt_3 : List UInt8 := dkwX0_twoAt_3 ++ []
def dkwX0_twoAt_2 : List UInt8 := [21, 5, 156, 0, 8, 16, 254, 27, 100, 172, 16, 10, 21, 4, 104, 21, 5, 96, 133, 28, 133, 29, 133]
abbrev dktX0_twoAt_2 : List UInt8 := dkwX0_twoAt_2 ++ dktX0_twoAt_3
def dkwX0_twoAt_1 : List UInt8 := [21, 4, 104, 16, 9, 96, 28, 162, 0, 7, 2, 27, 100, 172, 42, 27, 4, 96, 184, 0, 73, 54, 5]
abbrev dktX0_twoAt_1 : List UInt8 := dkwX0_twoAt_1 ++ dktX0_twoAt_2
def dkwX0_twoAt_0 : List UInt8 := [42, 27, 184, 0, 73, 54, 4, 21, 4, 155, 0, 24, 16, 10, 21, 4, 104, 29, 163, 0, 15, 16, 10]
abbrev dktX0_twoAt_0 : List UInt8 := dkwX0_twoAt_0 ++ dktX0_twoAt_1
theorem dksX0_twoAt_0 : cX0_twoAt.data.toList.drop 0 = dktX0_twoAt_0 := by decide +kernel
theorem dksX0_twoAt_1 : cX0_twoAt.data.toList.drop 23 = dktX0_twoAt_1 := dk_seg dksX0_twoAt_0 23 rfl rfl
theorem dksX0_twoAt_2 : cX0_twoAt.data.toList.drop 46 = dktX0_twoAt_2 := dk_seg dksX0_twoAt_1 23 rfl rfl
theorem dksX0_twoAt_3 : cX0_twoAt.data.toList.drop 69 = dktX0_twoAt_3 := dk_seg dksX0_twoAt_2 23 rfl rfl
theorem dX0_twoAt_0 : decode cX0_twoAt 0 = .ok (.aload_n 0, 1) := dk_42 (dk_at dksX0_twoAt_0 0 rfl rfl)
theorem dX0_twoAt_1 : decode cX0_twoAt 1 = .ok (.iload_n 1, 1) := dk_27 (dk_at dksX0_twoAt_0 1 rfl rfl)
theorem dX0_twoAt_2 : decode cX0_twoAt 2 = .ok (.invokestatic 73, 3) := dk_184 0 73 (dk_at dksX0_twoAt_0 2 rfl rfl)
theorem dX0_twoAt_5 : decode cX0_twoAt 5 = .ok (.istore 4, 2) := dk_54 4 (dk_at dksX0_twoAt_0 5 rfl rfl)
theorem dX0_twoAt_7 : decode cX0_twoAt 7 = .ok (.iload 4, 2) := dk_21 4 (dk_at dksX0_twoAt_0 7 rfl rfl)
theorem dX0_twoAt_9 : decode cX0_twoAt 9 = .ok (.ifCond .lt 24, 3) := dk_155 0 24 (dk_at dksX0_twoAt_0 9 rfl rfl)
theorem dX0_twoAt_12 : decode cX0_twoAt 12 = .ok (.bipush 10, 2) := dk_16 10 (dk_at dksX0_twoAt_0 12 rfl rfl)
theorem dX0_twoAt_14 : decode cX0_twoAt 14 = .ok (.iload 4, 2) := dk_21 4 (dk_at dksX0_twoAt_0 14 rfl rfl)
theorem dX0_twoAt_16 : decode cX0_twoAt 16 = .ok (.imul, 1) := dk_104 (dk_at dksX0_twoAt_0 16 rfl rfl)
theorem dX0_twoAt_17 : decode cX0_twoAt 17 = .ok (.iload_n 3, 1) := dk_29 (dk_at dksX0_twoAt_0 17 rfl rfl)
theorem dX0_twoAt_18 : decode cX0_twoAt 18 = .ok (.if_icmp .gt 15, 3) := dk_163 0 15 (dk_at dksX0_twoAt_0 18 rfl rfl)
theorem dX0_twoAt_21 : decode cX0_twoAt 21 = .ok (.bipush 10, 2) := dk_16 10 (dk_at dksX0_twoAt_0 21 rfl rfl)
theorem dX0_twoAt_23 : decode cX0_twoAt 23 = .ok (.iload 4, 2) := dk_21 4 (dk_at dksX0_twoAt_1 0 rfl rfl)
theorem dX0_twoAt_25 : decode cX0_twoAt 25 = .ok (.imul, 1) := dk_104 (dk_at dksX0_twoAt_1 2 rfl rfl)
theorem dX0_twoAt_26 : decode cX0_twoAt 26 = .ok (.bipush 9, 2) := dk_16 9 (dk_at dksX0_twoAt_1 3 rfl rfl)
theorem dX0_twoAt_28 : decode cX0_twoAt 28 = .ok (.iadd, 1) := dk_96 (dk_at dksX0_twoAt_1 5 rfl rfl)
theorem dX0_twoAt_29 : decode cX0_twoAt 29 = .ok (.iload_n 2, 1) := dk_28 (dk_at dksX0_twoAt_1 6 rfl rfl)
theorem dX0_twoAt_30 : decode cX0_twoAt 30 = .ok (.if_icmp .ge 7, 3) := dk_162 0 7 (dk_at dksX0_twoAt_1 7 rfl rfl)
theorem dX0_twoAt_33 : decode cX0_twoAt 33 = .ok (.iconst (-1), 1) := dk_2 (dk_at dksX0_twoAt_1 10 rfl rfl)
theorem dX0_twoAt_34 : decode cX0_twoAt 34 = .ok (.iload_n 1, 1) := dk_27 (dk_at dksX0_twoAt_1 11 rfl rfl)
theorem dX0_twoAt_35 : decode cX0_twoAt 35 = .ok (.isub, 1) := dk_100 (dk_at dksX0_twoAt_1 12 rfl rfl)
theorem dX0_twoAt_36 : decode cX0_twoAt 36 = .ok (.ireturn, 1) := dk_172 (dk_at dksX0_twoAt_1 13 rfl rfl)
theorem dX0_twoAt_37 : decode cX0_twoAt 37 = .ok (.aload_n 0, 1) := dk_42 (dk_at dksX0_twoAt_1 14 rfl rfl)
theorem dX0_twoAt_38 : decode cX0_twoAt 38 = .ok (.iload_n 1, 1) := dk_27 (dk_at dksX0_twoAt_1 15 rfl rfl)
theorem dX0_twoAt_39 : decode cX0_twoAt 39 = .ok (.iconst 1, 1) := dk_4 (dk_at dksX0_twoAt_1 16 rfl rfl)
theorem dX0_twoAt_40 : decode cX0_twoAt 40 = .ok (.iadd, 1) := dk_96 (dk_at dksX0_twoAt_1 17 rfl rfl)
theorem dX0_twoAt_41 : decode cX0_twoAt 41 = .ok (.invokestatic 73, 3) := dk_184 0 73 (dk_at dksX0_twoAt_1 18 rfl rfl)
theorem dX0_twoAt_44 : decode cX0_twoAt 44 = .ok (.istore 5, 2) := dk_54 5 (dk_at dksX0_twoAt_1 21 rfl rfl)
theorem dX0_twoAt_46 : decode cX0_twoAt 46 = .ok (.iload 5, 2) := dk_21 5 (dk_at dksX0_twoAt_2 0 rfl rfl)
theorem dX0_twoAt_48 : decode cX0_twoAt 48 = .ok (.ifCond .ge 8, 3) := dk_156 0 8 (dk_at dksX0_twoAt_2 2 rfl rfl)
theorem dX0_twoAt_51 : decode cX0_twoAt 51 = .ok (.bipush (-2), 2) := dk_16 254 (dk_at dksX0_twoAt_2 5 rfl rfl)
theorem dX0_twoAt_53 : decode cX0_twoAt 53 = .ok (.iload_n 1, 1) := dk_27 (dk_at dksX0_twoAt_2 7 rfl rfl)
theorem dX0_twoAt_54 : decode cX0_twoAt 54 = .ok (.isub, 1) := dk_100 (dk_at dksX0_twoAt_2 8 rfl rfl)
theorem dX0_twoAt_55 : decode cX0_twoAt 55 = .ok (.ireturn, 1) := dk_172 (dk_at dksX0_twoAt_2 9 rfl rfl)
theorem dX0_twoAt_56 : decode cX0_twoAt 56 = .ok (.bipush 10, 2) := dk_16 10 (dk_at dksX0_twoAt_2 10 rfl rfl)
theorem dX0_twoAt_58 : decode cX0_twoAt 58 = .ok (.iload 4, 2) := dk_21 4 (dk_at dksX0_twoAt_2 12 rfl rfl)
theorem dX0_twoAt_60 : decode cX0_twoAt 60 = .ok (.imul, 1) := dk_104 (dk_at dksX0_twoAt_2 14 rfl rfl)
theorem dX0_twoAt_61 : decode cX0_twoAt 61 = .ok (.iload 5, 2) := dk_21 5 (dk_at dksX0_twoAt_2 15 rfl rfl)
theorem dX0_twoAt_63 : decode cX0_twoAt 63 = .ok (.iadd, 1) := dk_96 (dk_at dksX0_twoAt_2 17 rfl rfl)
theorem dX0_twoAt_64 : decode cX0_twoAt 64 = .ok (.i2l, 1) := dk_133 (dk_at dksX0_twoAt_2 18 rfl rfl)
theorem dX0_twoAt_65 : decode cX0_twoAt 65 = .ok (.iload_n 2, 1) := dk_28 (dk_at dksX0_twoAt_2 19 rfl rfl)
theorem dX0_twoAt_66 : decode cX0_twoAt 66 = .ok (.i2l, 1) := dk_133 (dk_at dksX0_twoAt_2 20 rfl rfl)
theorem dX0_twoAt_67 : decode cX0_twoAt 67 = .ok (.iload_n 3, 1) := dk_29 (dk_at dksX0_twoAt_2 21 rfl rfl)
theorem dX0_twoAt_68 : decode cX0_twoAt 68 = .ok (.i2l, 1) := dk_133 (dk_at dksX0_twoAt_2 22 rfl rfl)
theorem dX0_twoAt_69 : decode cX0_twoAt 69 = .ok (.invokestatic 11, 3) := dk_184 0 11 (dk_at dksX0_twoAt_3 0 rfl rfl)
theorem dX0_twoAt_72 : decode cX0_twoAt 72 = .ok (.ifCond .eq 14, 3) := dk_153 0 14 (dk_at dksX0_twoAt_3 3 rfl rfl)
theorem dX0_twoAt_75 : decode cX0_twoAt 75 = .ok (.bipush 10, 2) := dk_16 10 (dk_at dksX0_twoAt_3 6 rfl rfl)
theorem dX0_twoAt_77 : decode cX0_twoAt 77 = .ok (.iload 4, 2) := dk_21 4 (dk_at dksX0_twoAt_3 8 rfl rfl)
theorem dX0_twoAt_79 : decode cX0_twoAt 79 = .ok (.imul, 1) := dk_104 (dk_at dksX0_twoAt_3 10 rfl rfl)
theorem dX0_twoAt_80 : decode cX0_twoAt 80 = .ok (.iload 5, 2) := dk_21 5 (dk_at dksX0_twoAt_3 11 rfl rfl)
theorem dX0_twoAt_82 : decode cX0_twoAt 82 = .ok (.iadd, 1) := dk_96 (dk_at dksX0_twoAt_3 13 rfl rfl)
theorem dX0_twoAt_83 : decode cX0_twoAt 83 = .ok (.goto 6, 3) := dk_167 0 6 (dk_at dksX0_twoAt_3 14 rfl rfl)
theorem dX0_twoAt_86 : decode cX0_twoAt 86 = .ok (.iconst (-1), 1) := dk_2 (dk_at dksX0_twoAt_3 17 rfl rfl)
theorem dX0_twoAt_87 : decode cX0_twoAt 87 = .ok (.iload_n 1, 1) := dk_27 (dk_at dksX0_twoAt_3 18 rfl rfl)
theorem dX0_twoAt_88 : decode cX0_twoAt 88 = .ok (.isub, 1) := dk_100 (dk_at dksX0_twoAt_3 19 rfl rfl)
theorem dX0_twoAt_89 : decode cX0_twoAt 89 = .ok (.ireturn, 1) := dk_172 (dk_at dksX0_twoAt_3 20 rfl rfl)
abbrev cX0_table : ByteArray := prog_1_method_58_code
def yX0_table : MethodName := ⟨RX0, "table", "(IIIII)I"⟩
def dkwX0_table_0 : List UInt8 := [42, 187, 1, 71, 89, 42, 27, 28, 29, 21, 4, 21, 5, 183, 1, 73, 27, 184, 0, 125, 182, 1, 67, 172]
abbrev dktX0_table_0 : List UInt8 := dkwX0_table_0 ++ []
theorem dksX0_table_0 : cX0_table.data.toList.drop 0 = dktX0_table_0 := by decide +kernel
theorem dX0_table_0 : decode cX0_table 0 = .ok (.aload_n 0, 1) := dk_42 (dk_at dksX0_table_0 0 rfl rfl)
theorem dX0_table_1 : decode cX0_table 1 = .ok (.new 327, 3) := dk_187 1 71 (dk_at dksX0_table_0 1 rfl rfl)
theorem dX0_table_4 : decode cX0_table 4 = .ok (.dup, 1) := dk_89 (dk_at dksX0_table_0 4 rfl rfl)
theorem dX0_table_5 : decode cX0_table 5 = .ok (.aload_n 0, 1) := dk_42 (dk_at dksX0_table_0 5 rfl rfl)
theorem dX0_table_6 : decode cX0_table 6 = .ok (.iload_n 1, 1) := dk_27 (dk_at dksX0_table_0 6 rfl rfl)
theorem dX0_table_7 : decode cX0_table 7 = .ok (.iload_n 2, 1) := dk_28 (dk_at dksX0_table_0 7 rfl rfl)
theorem dX0_table_8 : decode cX0_table 8 = .ok (.iload_n 3, 1) := dk_29 (dk_at dksX0_table_0 8 rfl rfl)
theorem dX0_table_9 : decode cX0_table 9 = .ok (.iload 4, 2) := dk_21 4 (dk_at dksX0_table_0 9 rfl rfl)
theorem dX0_table_11 : decode cX0_table 11 = .ok (.iload 5, 2) := dk_21 5 (dk_at dksX0_table_0 11 rfl rfl)
theorem dX0_table_13 : decode cX0_table 13 = .ok (.invokespecial 329, 3) := dk_183 1 73 (dk_at dksX0_table_0 13 rfl rfl)
theorem dX0_table_16 : decode cX0_table 16 = .ok (.iload_n 1, 1) := dk_27 (dk_at dksX0_table_0 16 rfl rfl)
theorem dX0_table_17 : decode cX0_table 17 = .ok (.invokestatic 125, 3) := dk_184 0 125 (dk_at dksX0_table_0 17 rfl rfl)
theorem dX0_table_20 : decode cX0_table 20 = .ok (.invokevirtual 323, 3) := dk_182 1 67 (dk_at dksX0_table_0 20 rfl rfl)
theorem dX0_table_23 : decode cX0_table 23 = .ok (.ireturn, 1) := dk_172 (dk_at dksX0_table_0 23 rfl rfl)
abbrev cX0_book : ByteArray := prog_1_method_59_code
def yX0_book : MethodName := ⟨RX0, "book", "(IIII)I"⟩
def dkwX0_book_0 : List UInt8 := [42, 187, 1, 74, 89, 42, 27, 28, 29, 21, 4, 183, 1, 76, 4, 182, 1, 67, 172]
abbrev dktX0_book_0 : List UInt8 := dkwX0_book_0 ++ []
theorem dksX0_book_0 : cX0_book.data.toList.drop 0 = dktX0_book_0 := by decide +kernel
theorem dX0_book_0 : decode cX0_book 0 = .ok (.aload_n 0, 1) := dk_42 (dk_at dksX0_book_0 0 rfl rfl)
theorem dX0_book_1 : decode cX0_book 1 = .ok (.new 330, 3) := dk_187 1 74 (dk_at dksX0_book_0 1 rfl rfl)
theorem dX0_book_4 : decode cX0_book 4 = .ok (.dup, 1) := dk_89 (dk_at dksX0_book_0 4 rfl rfl)
theorem dX0_book_5 : decode cX0_book 5 = .ok (.aload_n 0, 1) := dk_42 (dk_at dksX0_book_0 5 rfl rfl)
theorem dX0_book_6 : decode cX0_book 6 = .ok (.iload_n 1, 1) := dk_27 (dk_at dksX0_book_0 6 rfl rfl)
theorem dX0_book_7 : decode cX0_book 7 = .ok (.iload_n 2, 1) := dk_28 (dk_at dksX0_book_0 7 rfl rfl)
theorem dX0_book_8 : decode cX0_book 8 = .ok (.iload_n 3, 1) := dk_29 (dk_at dksX0_book_0 8 rfl rfl)
theorem dX0_book_9 : decode cX0_book 9 = .ok (.iload 4, 2) := dk_21 4 (dk_at dksX0_book_0 9 rfl rfl)
theorem dX0_book_11 : decode cX0_book 11 = .ok (.invokespecial 332, 3) := dk_183 1 76 (dk_at dksX0_book_0 11 rfl rfl)
theorem dX0_book_14 : decode cX0_book 14 = .ok (.iconst 1, 1) := dk_4 (dk_at dksX0_book_0 14 rfl rfl)
theorem dX0_book_15 : decode cX0_book 15 = .ok (.invokevirtual 323, 3) := dk_182 1 67 (dk_at dksX0_book_0 15 rfl rfl)
theorem dX0_book_18 : decode cX0_book 18 = .ok (.ireturn, 1) := dk_172 (dk_at dksX0_book_0 18 rfl rfl)
abbrev cX0_copy : ByteArray := prog_1_method_60_code
def yX0_copy : MethodName := ⟨RX0, "copy", "(IIIII)I"⟩
def dkwX0_copy_1 : List UInt8 := [187, 1, 77, 89, 42, 27, 28, 29, 21, 4, 21, 5, 183, 1, 79, 182, 1, 80, 172]
abbrev dktX0_copy_1 : List UInt8 := dkwX0_copy_1 ++ []
def dkwX0_copy_0 : List UInt8 := [27, 184, 1, 0, 154, 0, 10, 29, 184, 1, 0, 153, 0, 11, 42, 2, 182, 1, 3, 167, 0, 21]
abbrev dktX0_copy_0 : List UInt8 := dkwX0_copy_0 ++ dktX0_copy_1
theorem dksX0_copy_0 : cX0_copy.data.toList.drop 0 = dktX0_copy_0 := by decide +kernel
theorem dksX0_copy_1 : cX0_copy.data.toList.drop 22 = dktX0_copy_1 := dk_seg dksX0_copy_0 22 rfl rfl
theorem dX0_copy_0 : decode cX0_copy 0 = .ok (.iload_n 1, 1) := dk_27 (dk_at dksX0_copy_0 0 rfl rfl)
theorem dX0_copy_1 : decode cX0_copy 1 = .ok (.invokestatic 256, 3) := dk_184 1 0 (dk_at dksX0_copy_0 1 rfl rfl)
theorem dX0_copy_4 : decode cX0_copy 4 = .ok (.ifCond .ne 10, 3) := dk_154 0 10 (dk_at dksX0_copy_0 4 rfl rfl)
theorem dX0_copy_7 : decode cX0_copy 7 = .ok (.iload_n 3, 1) := dk_29 (dk_at dksX0_copy_0 7 rfl rfl)
theorem dX0_copy_8 : decode cX0_copy 8 = .ok (.invokestatic 256, 3) := dk_184 1 0 (dk_at dksX0_copy_0 8 rfl rfl)
theorem dX0_copy_11 : decode cX0_copy 11 = .ok (.ifCond .eq 11, 3) := dk_153 0 11 (dk_at dksX0_copy_0 11 rfl rfl)
theorem dX0_copy_14 : decode cX0_copy 14 = .ok (.aload_n 0, 1) := dk_42 (dk_at dksX0_copy_0 14 rfl rfl)
theorem dX0_copy_15 : decode cX0_copy 15 = .ok (.iconst (-1), 1) := dk_2 (dk_at dksX0_copy_0 15 rfl rfl)
theorem dX0_copy_16 : decode cX0_copy 16 = .ok (.invokevirtual 259, 3) := dk_182 1 3 (dk_at dksX0_copy_0 16 rfl rfl)
theorem dX0_copy_19 : decode cX0_copy 19 = .ok (.goto 21, 3) := dk_167 0 21 (dk_at dksX0_copy_0 19 rfl rfl)
theorem dX0_copy_22 : decode cX0_copy 22 = .ok (.new 333, 3) := dk_187 1 77 (dk_at dksX0_copy_1 0 rfl rfl)
theorem dX0_copy_25 : decode cX0_copy 25 = .ok (.dup, 1) := dk_89 (dk_at dksX0_copy_1 3 rfl rfl)
theorem dX0_copy_26 : decode cX0_copy 26 = .ok (.aload_n 0, 1) := dk_42 (dk_at dksX0_copy_1 4 rfl rfl)
theorem dX0_copy_27 : decode cX0_copy 27 = .ok (.iload_n 1, 1) := dk_27 (dk_at dksX0_copy_1 5 rfl rfl)
theorem dX0_copy_28 : decode cX0_copy 28 = .ok (.iload_n 2, 1) := dk_28 (dk_at dksX0_copy_1 6 rfl rfl)
theorem dX0_copy_29 : decode cX0_copy 29 = .ok (.iload_n 3, 1) := dk_29 (dk_at dksX0_copy_1 7 rfl rfl)
theorem dX0_copy_30 : decode cX0_copy 30 = .ok (.iload 4, 2) := dk_21 4 (dk_at dksX0_copy_1 8 rfl rfl)
theorem dX0_copy_32 : decode cX0_copy 32 = .ok (.iload 5, 2) := dk_21 5 (dk_at dksX0_copy_1 10 rfl rfl)
theorem dX0_copy_34 : decode cX0_copy 34 = .ok (.invokespecial 335, 3) := dk_183 1 79 (dk_at dksX0_copy_1 12 rfl rfl)
theorem dX0_copy_37 : decode cX0_copy 37 = .ok (.invokevirtual 336, 3) := dk_182 1 80 (dk_at dksX0_copy_1 15 rfl rfl)
theorem dX0_copy_40 : decode cX0_copy 40 = .ok (.ireturn, 1) := dk_172 (dk_at dksX0_copy_1 18 rfl rfl)
abbrev cX0_tell : ByteArray := prog_1_method_61_code
def yX0_tell : MethodName := ⟨RX0, "tell", "(I)I"⟩
def dkwX0_tell_1 : List UInt8 := [192, 0, 147, 182, 1, 81, 172]
abbrev dktX0_tell_1 : List UInt8 := dkwX0_tell_1 ++ []
def dkwX0_tell_0 : List UInt8 := [42, 27, 182, 0, 158, 153, 0, 7, 2, 167, 0, 19, 42, 180, 0, 28, 27, 185, 0, 112, 2, 0]
abbrev dktX0_tell_0 : List UInt8 := dkwX0_tell_0 ++ dktX0_tell_1
theorem dksX0_tell_0 : cX0_tell.data.toList.drop 0 = dktX0_tell_0 := by decide +kernel
theorem dksX0_tell_1 : cX0_tell.data.toList.drop 22 = dktX0_tell_1 := dk_seg dksX0_tell_0 22 rfl rfl
theorem dX0_tell_0 : decode cX0_tell 0 = .ok (.aload_n 0, 1) := dk_42 (dk_at dksX0_tell_0 0 rfl rfl)
theorem dX0_tell_1 : decode cX0_tell 1 = .ok (.iload_n 1, 1) := dk_27 (dk_at dksX0_tell_0 1 rfl rfl)
theorem dX0_tell_2 : decode cX0_tell 2 = .ok (.invokevirtual 158, 3) := dk_182 0 158 (dk_at dksX0_tell_0 2 rfl rfl)
theorem dX0_tell_5 : decode cX0_tell 5 = .ok (.ifCond .eq 7, 3) := dk_153 0 7 (dk_at dksX0_tell_0 5 rfl rfl)
theorem dX0_tell_8 : decode cX0_tell 8 = .ok (.iconst (-1), 1) := dk_2 (dk_at dksX0_tell_0 8 rfl rfl)
theorem dX0_tell_9 : decode cX0_tell 9 = .ok (.goto 19, 3) := dk_167 0 19 (dk_at dksX0_tell_0 9 rfl rfl)
theorem dX0_tell_12 : decode cX0_tell 12 = .ok (.aload_n 0, 1) := dk_42 (dk_at dksX0_tell_0 12 rfl rfl)
theorem dX0_tell_13 : decode cX0_tell 13 = .ok (.getfield 28, 3) := dk_180 0 28 (dk_at dksX0_tell_0 13 rfl rfl)
theorem dX0_tell_16 : decode cX0_tell 16 = .ok (.iload_n 1, 1) := dk_27 (dk_at dksX0_tell_0 16 rfl rfl)
theorem dX0_tell_17 : decode cX0_tell 17 = .ok (.invokeinterface 112 2, 5) := by decide +kernel
theorem dX0_tell_22 : decode cX0_tell 22 = .ok (.checkcast 147, 3) := dk_192 0 147 (dk_at dksX0_tell_1 0 rfl rfl)
theorem dX0_tell_25 : decode cX0_tell 25 = .ok (.invokevirtual 337, 3) := dk_182 1 81 (dk_at dksX0_tell_1 3 rfl rfl)
theorem dX0_tell_28 : decode cX0_tell 28 = .ok (.ireturn, 1) := dk_172 (dk_at dksX0_tell_1 6 rfl rfl)
abbrev cX0_stake : ByteArray := prog_1_method_62_code
def yX0_stake : MethodName := ⟨RX0, "stake", "(I)I"⟩
def dkwX0_stake_1 : List UInt8 := [44, 185, 1, 86, 1, 0, 172]
abbrev dktX0_stake_1 : List UInt8 := dkwX0_stake_1 ++ []
def dkwX0_stake_0 : List UInt8 := [42, 27, 182, 0, 158, 153, 0, 5, 2, 172, 42, 180, 0, 28, 27, 185, 0, 112, 2, 0, 192, 1, 84, 77]
abbrev dktX0_stake_0 : List UInt8 := dkwX0_stake_0 ++ dktX0_stake_1
theorem dksX0_stake_0 : cX0_stake.data.toList.drop 0 = dktX0_stake_0 := by decide +kernel
theorem dksX0_stake_1 : cX0_stake.data.toList.drop 24 = dktX0_stake_1 := dk_seg dksX0_stake_0 24 rfl rfl
theorem dX0_stake_0 : decode cX0_stake 0 = .ok (.aload_n 0, 1) := dk_42 (dk_at dksX0_stake_0 0 rfl rfl)
theorem dX0_stake_1 : decode cX0_stake 1 = .ok (.iload_n 1, 1) := dk_27 (dk_at dksX0_stake_0 1 rfl rfl)
theorem dX0_stake_2 : decode cX0_stake 2 = .ok (.invokevirtual 158, 3) := dk_182 0 158 (dk_at dksX0_stake_0 2 rfl rfl)
theorem dX0_stake_5 : decode cX0_stake 5 = .ok (.ifCond .eq 5, 3) := dk_153 0 5 (dk_at dksX0_stake_0 5 rfl rfl)
theorem dX0_stake_8 : decode cX0_stake 8 = .ok (.iconst (-1), 1) := dk_2 (dk_at dksX0_stake_0 8 rfl rfl)
theorem dX0_stake_9 : decode cX0_stake 9 = .ok (.ireturn, 1) := dk_172 (dk_at dksX0_stake_0 9 rfl rfl)
theorem dX0_stake_10 : decode cX0_stake 10 = .ok (.aload_n 0, 1) := dk_42 (dk_at dksX0_stake_0 10 rfl rfl)
theorem dX0_stake_11 : decode cX0_stake 11 = .ok (.getfield 28, 3) := dk_180 0 28 (dk_at dksX0_stake_0 11 rfl rfl)
theorem dX0_stake_14 : decode cX0_stake 14 = .ok (.iload_n 1, 1) := dk_27 (dk_at dksX0_stake_0 14 rfl rfl)
theorem dX0_stake_15 : decode cX0_stake 15 = .ok (.invokeinterface 112 2, 5) := by decide +kernel
theorem dX0_stake_20 : decode cX0_stake 20 = .ok (.checkcast 340, 3) := dk_192 1 84 (dk_at dksX0_stake_0 20 rfl rfl)
theorem dX0_stake_23 : decode cX0_stake 23 = .ok (.astore_n 2, 1) := dk_77 (dk_at dksX0_stake_0 23 rfl rfl)
theorem dX0_stake_24 : decode cX0_stake 24 = .ok (.aload_n 2, 1) := dk_44 (dk_at dksX0_stake_1 0 rfl rfl)
theorem dX0_stake_25 : decode cX0_stake 25 = .ok (.invokeinterface 342 1, 5) := by decide +kernel
theorem dX0_stake_30 : decode cX0_stake 30 = .ok (.ireturn, 1) := dk_172 (dk_at dksX0_stake_1 6 rfl rfl)
abbrev cX0_as : ByteArray := prog_1_method_63_code
def yX0_as : MethodName := ⟨RX0, "as", "(II)I"⟩
def dkwX0_as_2 : List UInt8 := [183, 1, 91, 182, 1, 94, 167, 0, 9, 42, 16, 254, 182, 1, 3, 172]
abbrev dktX0_as_2 : List UInt8 := dkwX0_as_2 ++ []
def dkwX0_as_1 : List UInt8 := [153, 0, 31, 187, 1, 89, 89, 42, 42, 180, 0, 28, 27, 185, 0, 112, 2, 0, 192, 0, 147, 28]
abbrev dktX0_as_1 : List UInt8 := dkwX0_as_1 ++ dktX0_as_2
def dkwX0_as_0 : List UInt8 := [42, 27, 182, 0, 158, 153, 0, 9, 42, 2, 182, 1, 3, 172, 28, 133, 9, 20, 0, 77, 184, 0, 11]
abbrev dktX0_as_0 : List UInt8 := dkwX0_as_0 ++ dktX0_as_1
theorem dksX0_as_0 : cX0_as.data.toList.drop 0 = dktX0_as_0 := by decide +kernel
theorem dksX0_as_1 : cX0_as.data.toList.drop 23 = dktX0_as_1 := dk_seg dksX0_as_0 23 rfl rfl
theorem dksX0_as_2 : cX0_as.data.toList.drop 45 = dktX0_as_2 := dk_seg dksX0_as_1 22 rfl rfl
theorem dX0_as_0 : decode cX0_as 0 = .ok (.aload_n 0, 1) := dk_42 (dk_at dksX0_as_0 0 rfl rfl)
theorem dX0_as_1 : decode cX0_as 1 = .ok (.iload_n 1, 1) := dk_27 (dk_at dksX0_as_0 1 rfl rfl)
theorem dX0_as_2 : decode cX0_as 2 = .ok (.invokevirtual 158, 3) := dk_182 0 158 (dk_at dksX0_as_0 2 rfl rfl)
theorem dX0_as_5 : decode cX0_as 5 = .ok (.ifCond .eq 9, 3) := dk_153 0 9 (dk_at dksX0_as_0 5 rfl rfl)
theorem dX0_as_8 : decode cX0_as 8 = .ok (.aload_n 0, 1) := dk_42 (dk_at dksX0_as_0 8 rfl rfl)
theorem dX0_as_9 : decode cX0_as 9 = .ok (.iconst (-1), 1) := dk_2 (dk_at dksX0_as_0 9 rfl rfl)
theorem dX0_as_10 : decode cX0_as 10 = .ok (.invokevirtual 259, 3) := dk_182 1 3 (dk_at dksX0_as_0 10 rfl rfl)
theorem dX0_as_13 : decode cX0_as 13 = .ok (.ireturn, 1) := dk_172 (dk_at dksX0_as_0 13 rfl rfl)
theorem dX0_as_14 : decode cX0_as 14 = .ok (.iload_n 2, 1) := dk_28 (dk_at dksX0_as_0 14 rfl rfl)
theorem dX0_as_15 : decode cX0_as 15 = .ok (.i2l, 1) := dk_133 (dk_at dksX0_as_0 15 rfl rfl)
theorem dX0_as_16 : decode cX0_as 16 = .ok (.lconst 0, 1) := dk_9 (dk_at dksX0_as_0 16 rfl rfl)
theorem dX0_as_17 : decode cX0_as 17 = .ok (.ldc2_w 77, 3) := dk_20 0 77 (dk_at dksX0_as_0 17 rfl rfl)
theorem dX0_as_20 : decode cX0_as 20 = .ok (.invokestatic 11, 3) := dk_184 0 11 (dk_at dksX0_as_0 20 rfl rfl)
theorem dX0_as_23 : decode cX0_as 23 = .ok (.ifCond .eq 31, 3) := dk_153 0 31 (dk_at dksX0_as_1 0 rfl rfl)
theorem dX0_as_26 : decode cX0_as 26 = .ok (.new 345, 3) := dk_187 1 89 (dk_at dksX0_as_1 3 rfl rfl)
theorem dX0_as_29 : decode cX0_as 29 = .ok (.dup, 1) := dk_89 (dk_at dksX0_as_1 6 rfl rfl)
theorem dX0_as_30 : decode cX0_as 30 = .ok (.aload_n 0, 1) := dk_42 (dk_at dksX0_as_1 7 rfl rfl)
theorem dX0_as_31 : decode cX0_as 31 = .ok (.aload_n 0, 1) := dk_42 (dk_at dksX0_as_1 8 rfl rfl)
theorem dX0_as_32 : decode cX0_as 32 = .ok (.getfield 28, 3) := dk_180 0 28 (dk_at dksX0_as_1 9 rfl rfl)
theorem dX0_as_35 : decode cX0_as 35 = .ok (.iload_n 1, 1) := dk_27 (dk_at dksX0_as_1 12 rfl rfl)
theorem dX0_as_36 : decode cX0_as 36 = .ok (.invokeinterface 112 2, 5) := by decide +kernel
theorem dX0_as_41 : decode cX0_as 41 = .ok (.checkcast 147, 3) := dk_192 0 147 (dk_at dksX0_as_1 18 rfl rfl)
theorem dX0_as_44 : decode cX0_as 44 = .ok (.iload_n 2, 1) := dk_28 (dk_at dksX0_as_1 21 rfl rfl)
theorem dX0_as_45 : decode cX0_as 45 = .ok (.invokespecial 347, 3) := dk_183 1 91 (dk_at dksX0_as_2 0 rfl rfl)
theorem dX0_as_48 : decode cX0_as 48 = .ok (.invokevirtual 350, 3) := dk_182 1 94 (dk_at dksX0_as_2 3 rfl rfl)
theorem dX0_as_51 : decode cX0_as 51 = .ok (.goto 9, 3) := dk_167 0 9 (dk_at dksX0_as_2 6 rfl rfl)
theorem dX0_as_54 : decode cX0_as 54 = .ok (.aload_n 0, 1) := dk_42 (dk_at dksX0_as_2 9 rfl rfl)
theorem dX0_as_55 : decode cX0_as 55 = .ok (.bipush (-2), 2) := dk_16 254 (dk_at dksX0_as_2 10 rfl rfl)
theorem dX0_as_57 : decode cX0_as 57 = .ok (.invokevirtual 259, 3) := dk_182 1 3 (dk_at dksX0_as_2 12 rfl rfl)
theorem dX0_as_60 : decode cX0_as 60 = .ok (.ireturn, 1) := dk_172 (dk_at dksX0_as_2 15 rfl rfl)
abbrev cX0_trace : ByteArray := prog_1_method_64_code
def yX0_trace : MethodName := ⟨RX0, "trace", "()I"⟩
theorem dX0_trace_0 : decode cX0_trace 0 = .ok (.aload_n 0, 1) := by decide +kernel
theorem dX0_trace_1 : decode cX0_trace 1 = .ok (.getfield 351, 3) := by decide +kernel
theorem dX0_trace_4 : decode cX0_trace 4 = .ok (.ireturn, 1) := by decide +kernel
abbrev cX0_fault : ByteArray := prog_1_method_65_code
def yX0_fault : MethodName := ⟨RX0, "fault", "()I"⟩
theorem dX0_fault_0 : decode cX0_fault 0 = .ok (.aload_n 0, 1) := by decide +kernel
theorem dX0_fault_1 : decode cX0_fault 1 = .ok (.getfield 242, 3) := by decide +kernel
theorem dX0_fault_4 : decode cX0_fault 4 = .ok (.ireturn, 1) := by decide +kernel
abbrev cX0_many : ByteArray := prog_1_method_66_code
def yX0_many : MethodName := ⟨RX0, "many", "(I)I"⟩
def dkwX0_many_2 : List UInt8 := [167, 0, 5, 16, 254, 172]
abbrev dktX0_many_2 : List UInt8 := dkwX0_many_2 ++ []
def dkwX0_many_1 : List UInt8 := [185, 0, 65, 1, 0, 167, 0, 22, 27, 5, 160, 0, 15, 42, 180, 0, 28, 185, 0, 65, 1, 0]
abbrev dktX0_many_1 : List UInt8 := dkwX0_many_1 ++ dktX0_many_2
def dkwX0_many_0 : List UInt8 := [27, 154, 0, 10, 42, 180, 0, 61, 167, 0, 39, 27, 4, 160, 0, 15, 42, 180, 0, 24]
abbrev dktX0_many_0 : List UInt8 := dkwX0_many_0 ++ dktX0_many_1
theorem dksX0_many_0 : cX0_many.data.toList.drop 0 = dktX0_many_0 := by decide +kernel
theorem dksX0_many_1 : cX0_many.data.toList.drop 20 = dktX0_many_1 := dk_seg dksX0_many_0 20 rfl rfl
theorem dksX0_many_2 : cX0_many.data.toList.drop 42 = dktX0_many_2 := dk_seg dksX0_many_1 22 rfl rfl
theorem dX0_many_0 : decode cX0_many 0 = .ok (.iload_n 1, 1) := dk_27 (dk_at dksX0_many_0 0 rfl rfl)
theorem dX0_many_1 : decode cX0_many 1 = .ok (.ifCond .ne 10, 3) := dk_154 0 10 (dk_at dksX0_many_0 1 rfl rfl)
theorem dX0_many_4 : decode cX0_many 4 = .ok (.aload_n 0, 1) := dk_42 (dk_at dksX0_many_0 4 rfl rfl)
theorem dX0_many_5 : decode cX0_many 5 = .ok (.getfield 61, 3) := dk_180 0 61 (dk_at dksX0_many_0 5 rfl rfl)
theorem dX0_many_8 : decode cX0_many 8 = .ok (.goto 39, 3) := dk_167 0 39 (dk_at dksX0_many_0 8 rfl rfl)
theorem dX0_many_11 : decode cX0_many 11 = .ok (.iload_n 1, 1) := dk_27 (dk_at dksX0_many_0 11 rfl rfl)
theorem dX0_many_12 : decode cX0_many 12 = .ok (.iconst 1, 1) := dk_4 (dk_at dksX0_many_0 12 rfl rfl)
theorem dX0_many_13 : decode cX0_many 13 = .ok (.if_icmp .ne 15, 3) := dk_160 0 15 (dk_at dksX0_many_0 13 rfl rfl)
theorem dX0_many_16 : decode cX0_many 16 = .ok (.aload_n 0, 1) := dk_42 (dk_at dksX0_many_0 16 rfl rfl)
theorem dX0_many_17 : decode cX0_many 17 = .ok (.getfield 24, 3) := dk_180 0 24 (dk_at dksX0_many_0 17 rfl rfl)
theorem dX0_many_20 : decode cX0_many 20 = .ok (.invokeinterface 65 1, 5) := by decide +kernel
theorem dX0_many_25 : decode cX0_many 25 = .ok (.goto 22, 3) := dk_167 0 22 (dk_at dksX0_many_1 5 rfl rfl)
theorem dX0_many_28 : decode cX0_many 28 = .ok (.iload_n 1, 1) := dk_27 (dk_at dksX0_many_1 8 rfl rfl)
theorem dX0_many_29 : decode cX0_many 29 = .ok (.iconst 2, 1) := dk_5 (dk_at dksX0_many_1 9 rfl rfl)
theorem dX0_many_30 : decode cX0_many 30 = .ok (.if_icmp .ne 15, 3) := dk_160 0 15 (dk_at dksX0_many_1 10 rfl rfl)
theorem dX0_many_33 : decode cX0_many 33 = .ok (.aload_n 0, 1) := dk_42 (dk_at dksX0_many_1 13 rfl rfl)
theorem dX0_many_34 : decode cX0_many 34 = .ok (.getfield 28, 3) := dk_180 0 28 (dk_at dksX0_many_1 14 rfl rfl)
theorem dX0_many_37 : decode cX0_many 37 = .ok (.invokeinterface 65 1, 5) := by decide +kernel
theorem dX0_many_42 : decode cX0_many 42 = .ok (.goto 5, 3) := dk_167 0 5 (dk_at dksX0_many_2 0 rfl rfl)
theorem dX0_many_45 : decode cX0_many 45 = .ok (.bipush (-2), 2) := dk_16 254 (dk_at dksX0_many_2 3 rfl rfl)
theorem dX0_many_47 : decode cX0_many 47 = .ok (.ireturn, 1) := dk_172 (dk_at dksX0_many_2 5 rfl rfl)
theorem q50 : (Jvm.Cond.initialized "ThirdEbb") ∈ lw_all := lw_g (lw_at lw_m1 1 rfl) rfl
theorem q84 : (Jvm.Cond.instantiable "ThirdEbb" (14 : Nat)) ∈ lw_all := lw_g (lw_at lw_m1 35 rfl) rfl
theorem q86 : (Jvm.Cond.instanceMethod ({ cls := "ThirdEbb", name := "<init>", desc := "()V" } : Jvm.MethodName)) ∈ lw_all := lw_g (lw_at lw_m1 37 rfl) rfl
theorem q87 : (Jvm.Cond.code ({ cls := "ThirdEbb", name := "<init>", desc := "()V" } : Jvm.MethodName) prog_1_method_5_code (1 : Nat) (Option.none : Option Jvm.ClassFile.FieldType)) ∈ lw_all := lw_g (lw_at lw_m1 38 rfl) rfl
theorem q88 : (Jvm.Cond.methodLink "ThirdEbb" (15 : Nat) ({ cls := "java/lang/Object", name := "<init>", desc := "()V" } : Jvm.MethodName)) ∈ lw_all := lw_g (lw_at lw_m1 39 rfl) rfl
theorem q91 : (Jvm.Cond.classLink "ThirdEbb" (21 : Nat) "java/util/ArrayList") ∈ lw_all := lw_g (lw_at lw_m1 42 rfl) rfl
theorem q93 : (Jvm.Cond.methodLink "ThirdEbb" (23 : Nat) ({ cls := "java/util/ArrayList", name := "<init>", desc := "()V" } : Jvm.MethodName)) ∈ lw_all := lw_g (lw_at lw_m1 44 rfl) rfl
theorem q117 : (Jvm.Cond.classLink "ThirdEbb" (35 : Nat) "[[I") ∈ lw_all := lw_g (lw_at lw_m1 68 rfl) rfl
theorem q119 : (Jvm.Cond.classLink "ThirdEbb" (55 : Nat) "ThirdEbb$Sheet") ∈ lw_all := lw_g (lw_at lw_m1 70 rfl) rfl
theorem q121 : (Jvm.Cond.fieldLink "ThirdEbb" (61 : Nat) "ThirdEbb" "islands" "I") ∈ lw_all := lw_g (lw_at lw_m1 72 rfl) rfl
theorem q122 : (Jvm.Cond.fieldLink "ThirdEbb" (24 : Nat) "ThirdEbb" "moons" "Ljava/util/List;") ∈ lw_all := lw_g (lw_at lw_m1 73 rfl) rfl
theorem q124 : (Jvm.Cond.fieldLink "ThirdEbb" (351 : Nat) "ThirdEbb" "trace" "I") ∈ lw_all := lw_g (lw_at lw_m1 75 rfl) rfl
theorem q125 : (Jvm.Cond.fieldLink "ThirdEbb" (28 : Nat) "ThirdEbb" "roads" "Ljava/util/List;") ∈ lw_all := lw_g (lw_at lw_m1 76 rfl) rfl
theorem q126 : (Jvm.Cond.fieldLink "ThirdEbb" (31 : Nat) "ThirdEbb" "levels" "[I") ∈ lw_all := lw_g (lw_at lw_m1 77 rfl) rfl
theorem q127 : (Jvm.Cond.fieldLink "ThirdEbb" (37 : Nat) "ThirdEbb" "starts" "[[I") ∈ lw_all := lw_g (lw_at lw_m1 78 rfl) rfl
theorem q128 : (Jvm.Cond.fieldLink "ThirdEbb" (40 : Nat) "ThirdEbb" "there" "[I") ∈ lw_all := lw_g (lw_at lw_m1 79 rfl) rfl
theorem q129 : (Jvm.Cond.fieldLink "ThirdEbb" (43 : Nat) "ThirdEbb" "came" "[I") ∈ lw_all := lw_g (lw_at lw_m1 80 rfl) rfl
theorem q130 : (Jvm.Cond.fieldLink "ThirdEbb" (46 : Nat) "ThirdEbb" "trying" "[I") ∈ lw_all := lw_g (lw_at lw_m1 81 rfl) rfl
theorem q131 : (Jvm.Cond.fieldLink "ThirdEbb" (49 : Nat) "ThirdEbb" "bestRow" "[I") ∈ lw_all := lw_g (lw_at lw_m1 82 rfl) rfl
theorem q132 : (Jvm.Cond.fieldLink "ThirdEbb" (224 : Nat) "ThirdEbb" "over" "I") ∈ lw_all := lw_g (lw_at lw_m1 83 rfl) rfl
theorem q133 : (Jvm.Cond.fieldLink "ThirdEbb" (52 : Nat) "ThirdEbb" "allThere" "[I") ∈ lw_all := lw_g (lw_at lw_m1 84 rfl) rfl
theorem q135 : (Jvm.Cond.fieldLink "ThirdEbb" (242 : Nat) "ThirdEbb" "fault" "I") ∈ lw_all := lw_g (lw_at lw_m1 86 rfl) rfl
theorem q136 : (Jvm.Cond.fieldLink "ThirdEbb" (57 : Nat) "ThirdEbb" "sheets" "[LThirdEbb$Sheet;") ∈ lw_all := lw_g (lw_at lw_m1 87 rfl) rfl
theorem q137 : (Jvm.Cond.lays "ThirdEbb" "ThirdEbb" "islands" "I") ∈ lw_all := lw_g (lw_at lw_m1 88 rfl) rfl
theorem q138 : (Jvm.Cond.soleField "ThirdEbb" "islands") ∈ lw_all := lw_g (lw_at lw_m1 89 rfl) rfl
theorem q139 : (Jvm.Cond.laysFinal "ThirdEbb" "ThirdEbb" "moons" "Ljava/util/List;") ∈ lw_all := lw_g (lw_at lw_m1 90 rfl) rfl
theorem q140 : (Jvm.Cond.soleField "ThirdEbb" "moons") ∈ lw_all := lw_g (lw_at lw_m1 91 rfl) rfl
theorem q141 : (Jvm.Cond.lays "ThirdEbb" "ThirdEbb" "trace" "I") ∈ lw_all := lw_g (lw_at lw_m1 92 rfl) rfl
theorem q142 : (Jvm.Cond.soleField "ThirdEbb" "trace") ∈ lw_all := lw_g (lw_at lw_m1 93 rfl) rfl
theorem q143 : (Jvm.Cond.laysFinal "ThirdEbb" "ThirdEbb" "roads" "Ljava/util/List;") ∈ lw_all := lw_g (lw_at lw_m1 94 rfl) rfl
theorem q144 : (Jvm.Cond.soleField "ThirdEbb" "roads") ∈ lw_all := lw_g (lw_at lw_m1 95 rfl) rfl
theorem q145 : (Jvm.Cond.laysFinal "ThirdEbb" "ThirdEbb" "levels" "[I") ∈ lw_all := lw_g (lw_at lw_m1 96 rfl) rfl
theorem q146 : (Jvm.Cond.soleField "ThirdEbb" "levels") ∈ lw_all := lw_g (lw_at lw_m1 97 rfl) rfl
theorem q147 : (Jvm.Cond.laysFinal "ThirdEbb" "ThirdEbb" "starts" "[[I") ∈ lw_all := lw_g (lw_at lw_m1 98 rfl) rfl
theorem q148 : (Jvm.Cond.soleField "ThirdEbb" "starts") ∈ lw_all := lw_g (lw_at lw_m1 99 rfl) rfl
theorem q149 : (Jvm.Cond.laysFinal "ThirdEbb" "ThirdEbb" "there" "[I") ∈ lw_all := lw_g (lw_at lw_m1 100 rfl) rfl
theorem q150 : (Jvm.Cond.soleField "ThirdEbb" "there") ∈ lw_all := lw_g (lw_at lw_m1 101 rfl) rfl
theorem q151 : (Jvm.Cond.laysFinal "ThirdEbb" "ThirdEbb" "came" "[I") ∈ lw_all := lw_g (lw_at lw_m1 102 rfl) rfl
theorem q152 : (Jvm.Cond.soleField "ThirdEbb" "came") ∈ lw_all := lw_g (lw_at lw_m1 103 rfl) rfl
theorem q153 : (Jvm.Cond.laysFinal "ThirdEbb" "ThirdEbb" "trying" "[I") ∈ lw_all := lw_g (lw_at lw_m1 104 rfl) rfl
theorem q154 : (Jvm.Cond.soleField "ThirdEbb" "trying") ∈ lw_all := lw_g (lw_at lw_m1 105 rfl) rfl
theorem q155 : (Jvm.Cond.laysFinal "ThirdEbb" "ThirdEbb" "bestRow" "[I") ∈ lw_all := lw_g (lw_at lw_m1 106 rfl) rfl
theorem q156 : (Jvm.Cond.soleField "ThirdEbb" "bestRow") ∈ lw_all := lw_g (lw_at lw_m1 107 rfl) rfl
theorem q157 : (Jvm.Cond.lays "ThirdEbb" "ThirdEbb" "over" "I") ∈ lw_all := lw_g (lw_at lw_m1 108 rfl) rfl
theorem q158 : (Jvm.Cond.soleField "ThirdEbb" "over") ∈ lw_all := lw_g (lw_at lw_m1 109 rfl) rfl
theorem q159 : (Jvm.Cond.laysFinal "ThirdEbb" "ThirdEbb" "allThere" "[I") ∈ lw_all := lw_g (lw_at lw_m1 110 rfl) rfl
theorem q160 : (Jvm.Cond.soleField "ThirdEbb" "allThere") ∈ lw_all := lw_g (lw_at lw_m1 111 rfl) rfl
theorem q161 : (Jvm.Cond.lays "ThirdEbb" "ThirdEbb" "fault" "I") ∈ lw_all := lw_g (lw_at lw_m1 112 rfl) rfl
theorem q162 : (Jvm.Cond.soleField "ThirdEbb" "fault") ∈ lw_all := lw_g (lw_at lw_m1 113 rfl) rfl
theorem q163 : (Jvm.Cond.laysFinal "ThirdEbb" "ThirdEbb" "sheets" "[LThirdEbb$Sheet;") ∈ lw_all := lw_g (lw_at lw_m1 114 rfl) rfl
theorem q164 : (Jvm.Cond.soleField "ThirdEbb" "sheets") ∈ lw_all := lw_g (lw_at lw_m1 115 rfl) rfl
theorem q165 : (Jvm.Cond.superclass "ThirdEbb" "java/lang/Object") ∈ lw_all := lw_g (lw_at lw_m1 116 rfl) rfl
theorem q168 : (Jvm.Cond.instanceMethod ({ cls := "ThirdEbb", name := "ofMoon", desc := "(II)I" } : Jvm.MethodName)) ∈ lw_all := lw_g (lw_at lw_m1 119 rfl) rfl
theorem q169 : (Jvm.Cond.selects "ThirdEbb" ({ cls := "ThirdEbb", name := "ofMoon", desc := "(II)I" } : Jvm.MethodName) ({ cls := "ThirdEbb", name := "ofMoon", desc := "(II)I" } : Jvm.MethodName)) ∈ lw_all := lw_g (lw_at lw_m1 120 rfl) rfl
theorem q170 : (Jvm.Cond.code ({ cls := "ThirdEbb", name := "ofMoon", desc := "(II)I" } : Jvm.MethodName) prog_1_method_11_code (4 : Nat) (Option.some Jvm.ClassFile.FieldType.int)) ∈ lw_all := lw_g (lw_at lw_m1 121 rfl) rfl
theorem q171 : (Jvm.Cond.methodLink "ThirdEbb" (108 : Nat) ({ cls := "ThirdEbb", name := "noMoon", desc := "(I)Z" } : Jvm.MethodName)) ∈ lw_all := lw_g (lw_at lw_m1 122 rfl) rfl
theorem q172 : (Jvm.Cond.privateMethod ({ cls := "ThirdEbb", name := "noMoon", desc := "(I)Z" } : Jvm.MethodName)) ∈ lw_tbl := lw_at lw_m1 123 rfl
theorem q173 : (Jvm.Cond.instanceMethod ({ cls := "ThirdEbb", name := "noMoon", desc := "(I)Z" } : Jvm.MethodName)) ∈ lw_all := lw_g (lw_at lw_m1 124 rfl) rfl
theorem q174 : (Jvm.Cond.code ({ cls := "ThirdEbb", name := "noMoon", desc := "(I)Z" } : Jvm.MethodName) prog_1_method_7_code (2 : Nat) (Option.some Jvm.ClassFile.FieldType.boolean)) ∈ lw_all := lw_g (lw_at lw_m1 125 rfl) rfl
theorem q175 : (Jvm.Cond.interfaceEntry "ThirdEbb" (65 : Nat)) ∈ lw_tbl := lw_at lw_m1 126 rfl
theorem q176 : (Jvm.Cond.methodLink "ThirdEbb" (65 : Nat) ({ cls := "java/util/List", name := "size", desc := "()I" } : Jvm.MethodName)) ∈ lw_all := lw_g (lw_at lw_m1 127 rfl) rfl
theorem q185 : (Jvm.Cond.methodLink "ThirdEbb" (11 : Nat) ({ cls := "ThirdEbb", name := "in", desc := "(JJJ)Z" } : Jvm.MethodName)) ∈ lw_all := lw_g (lw_at lw_m1 136 rfl) rfl
theorem q186 : (Jvm.Cond.static ({ cls := "ThirdEbb", name := "in", desc := "(JJJ)Z" } : Jvm.MethodName)) ∈ lw_all := lw_g (lw_at lw_m1 137 rfl) rfl
theorem q187 : (Jvm.Cond.code ({ cls := "ThirdEbb", name := "in", desc := "(JJJ)Z" } : Jvm.MethodName) prog_1_method_1_code (6 : Nat) (Option.some Jvm.ClassFile.FieldType.boolean)) ∈ lw_all := lw_g (lw_at lw_m1 138 rfl) rfl
theorem q188 : (Jvm.Cond.interfaceEntry "ThirdEbb" (112 : Nat)) ∈ lw_tbl := lw_at lw_m1 139 rfl
theorem q189 : (Jvm.Cond.methodLink "ThirdEbb" (112 : Nat) ({ cls := "java/util/List", name := "get", desc := "(I)Ljava/lang/Object;" } : Jvm.MethodName)) ∈ lw_all := lw_g (lw_at lw_m1 140 rfl) rfl
theorem q207 : (Jvm.Cond.classLink "ThirdEbb" (92 : Nat) "ThirdEbb$Moon") ∈ lw_all := lw_g (lw_at lw_m1 158 rfl) rfl
theorem q209 : (Jvm.Cond.instanceMethod ({ cls := "ThirdEbb", name := "phase", desc := "(II)I" } : Jvm.MethodName)) ∈ lw_all := lw_g (lw_at lw_m1 160 rfl) rfl
theorem q210 : (Jvm.Cond.selects "ThirdEbb" ({ cls := "ThirdEbb", name := "phase", desc := "(II)I" } : Jvm.MethodName) ({ cls := "ThirdEbb", name := "phase", desc := "(II)I" } : Jvm.MethodName)) ∈ lw_all := lw_g (lw_at lw_m1 161 rfl) rfl
theorem q211 : (Jvm.Cond.code ({ cls := "ThirdEbb", name := "phase", desc := "(II)I" } : Jvm.MethodName) prog_1_method_12_code (3 : Nat) (Option.some Jvm.ClassFile.FieldType.int)) ∈ lw_all := lw_g (lw_at lw_m1 162 rfl) rfl
theorem q212 : (Jvm.Cond.methodLink "ThirdEbb" (125 : Nat) ({ cls := "ThirdEbb", name := "isHour", desc := "(I)Z" } : Jvm.MethodName)) ∈ lw_all := lw_g (lw_at lw_m1 163 rfl) rfl
theorem q213 : (Jvm.Cond.static ({ cls := "ThirdEbb", name := "isHour", desc := "(I)Z" } : Jvm.MethodName)) ∈ lw_all := lw_g (lw_at lw_m1 164 rfl) rfl
theorem q214 : (Jvm.Cond.code ({ cls := "ThirdEbb", name := "isHour", desc := "(I)Z" } : Jvm.MethodName) prog_1_method_4_code (1 : Nat) (Option.some Jvm.ClassFile.FieldType.boolean)) ∈ lw_all := lw_g (lw_at lw_m1 165 rfl) rfl
theorem q215 : (Jvm.Cond.constantLong "ThirdEbb" (9 : Nat) (1999 : Int64)) ∈ lw_all := lw_g (lw_at lw_m1 166 rfl) rfl
theorem q216 : (Jvm.Cond.methodLink "ThirdEbb" (128 : Nat) ({ cls := "ThirdEbb$Moon", name := "phase", desc := "(I)I" } : Jvm.MethodName)) ∈ lw_all := lw_g (lw_at lw_m1 167 rfl) rfl
theorem q221 : (Jvm.Cond.instanceMethod ({ cls := "ThirdEbb", name := "level", desc := "(I)I" } : Jvm.MethodName)) ∈ lw_all := lw_g (lw_at lw_m1 172 rfl) rfl
theorem q222 : (Jvm.Cond.selects "ThirdEbb" ({ cls := "ThirdEbb", name := "level", desc := "(I)I" } : Jvm.MethodName) ({ cls := "ThirdEbb", name := "level", desc := "(I)I" } : Jvm.MethodName)) ∈ lw_all := lw_g (lw_at lw_m1 173 rfl) rfl
theorem q223 : (Jvm.Cond.code ({ cls := "ThirdEbb", name := "level", desc := "(I)I" } : Jvm.MethodName) prog_1_method_14_code (2 : Nat) (Option.some Jvm.ClassFile.FieldType.int)) ∈ lw_all := lw_g (lw_at lw_m1 174 rfl) rfl
theorem q224 : (Jvm.Cond.methodLink "ThirdEbb" (135 : Nat) ({ cls := "ThirdEbb", name := "levelIn", desc := "(I)I" } : Jvm.MethodName)) ∈ lw_all := lw_g (lw_at lw_m1 175 rfl) rfl
theorem q225 : (Jvm.Cond.privateMethod ({ cls := "ThirdEbb", name := "levelIn", desc := "(I)I" } : Jvm.MethodName)) ∈ lw_tbl := lw_at lw_m1 176 rfl
theorem q226 : (Jvm.Cond.instanceMethod ({ cls := "ThirdEbb", name := "levelIn", desc := "(I)I" } : Jvm.MethodName)) ∈ lw_all := lw_g (lw_at lw_m1 177 rfl) rfl
theorem q227 : (Jvm.Cond.code ({ cls := "ThirdEbb", name := "levelIn", desc := "(I)I" } : Jvm.MethodName) prog_1_method_13_code (4 : Nat) (Option.some Jvm.ClassFile.FieldType.int)) ∈ lw_all := lw_g (lw_at lw_m1 178 rfl) rfl
theorem q228 : (Jvm.Cond.methodLink "ThirdEbb" (132 : Nat) ({ cls := "ThirdEbb$Moon", name := "draws", desc := "(I)I" } : Jvm.MethodName)) ∈ lw_all := lw_g (lw_at lw_m1 179 rfl) rfl
theorem q237 : (Jvm.Cond.instanceMethod ({ cls := "ThirdEbb", name := "again", desc := "()I" } : Jvm.MethodName)) ∈ lw_all := lw_g (lw_at lw_m1 188 rfl) rfl
theorem q238 : (Jvm.Cond.selects "ThirdEbb" ({ cls := "ThirdEbb", name := "again", desc := "()I" } : Jvm.MethodName) ({ cls := "ThirdEbb", name := "again", desc := "()I" } : Jvm.MethodName)) ∈ lw_all := lw_g (lw_at lw_m1 189 rfl) rfl
theorem q239 : (Jvm.Cond.code ({ cls := "ThirdEbb", name := "again", desc := "()I" } : Jvm.MethodName) prog_1_method_16_code (4 : Nat) (Option.some Jvm.ClassFile.FieldType.int)) ∈ lw_all := lw_g (lw_at lw_m1 190 rfl) rfl
theorem q240 : (Jvm.Cond.methodLink "ThirdEbb" (5 : Nat) ({ cls := "ThirdEbb", name := "common", desc := "(II)I" } : Jvm.MethodName)) ∈ lw_all := lw_g (lw_at lw_m1 191 rfl) rfl
theorem q241 : (Jvm.Cond.static ({ cls := "ThirdEbb", name := "common", desc := "(II)I" } : Jvm.MethodName)) ∈ lw_all := lw_g (lw_at lw_m1 192 rfl) rfl
theorem q242 : (Jvm.Cond.code ({ cls := "ThirdEbb", name := "common", desc := "(II)I" } : Jvm.MethodName) prog_1_method_3_code (2 : Nat) (Option.some Jvm.ClassFile.FieldType.int)) ∈ lw_all := lw_g (lw_at lw_m1 193 rfl) rfl
theorem q243 : (Jvm.Cond.methodLink "ThirdEbb" (138 : Nat) ({ cls := "ThirdEbb", name := "isAgain", desc := "(II)Z" } : Jvm.MethodName)) ∈ lw_all := lw_g (lw_at lw_m1 194 rfl) rfl
theorem q244 : (Jvm.Cond.privateMethod ({ cls := "ThirdEbb", name := "isAgain", desc := "(II)Z" } : Jvm.MethodName)) ∈ lw_tbl := lw_at lw_m1 195 rfl
theorem q245 : (Jvm.Cond.instanceMethod ({ cls := "ThirdEbb", name := "isAgain", desc := "(II)Z" } : Jvm.MethodName)) ∈ lw_all := lw_g (lw_at lw_m1 196 rfl) rfl
theorem q246 : (Jvm.Cond.code ({ cls := "ThirdEbb", name := "isAgain", desc := "(II)Z" } : Jvm.MethodName) prog_1_method_15_code (4 : Nat) (Option.some Jvm.ClassFile.FieldType.boolean)) ∈ lw_all := lw_g (lw_at lw_m1 197 rfl) rfl
theorem q248 : (Jvm.Cond.instanceMethod ({ cls := "ThirdEbb", name := "road", desc := "(IIIII)I" } : Jvm.MethodName)) ∈ lw_all := lw_g (lw_at lw_m1 199 rfl) rfl
theorem q249 : (Jvm.Cond.selects "ThirdEbb" ({ cls := "ThirdEbb", name := "road", desc := "(IIIII)I" } : Jvm.MethodName) ({ cls := "ThirdEbb", name := "road", desc := "(IIIII)I" } : Jvm.MethodName)) ∈ lw_all := lw_g (lw_at lw_m1 200 rfl) rfl
theorem q250 : (Jvm.Cond.code ({ cls := "ThirdEbb", name := "road", desc := "(IIIII)I" } : Jvm.MethodName) prog_1_method_18_code (7 : Nat) (Option.some Jvm.ClassFile.FieldType.int)) ∈ lw_all := lw_g (lw_at lw_m1 201 rfl) rfl
theorem q251 : (Jvm.Cond.methodLink "ThirdEbb" (142 : Nat) ({ cls := "ThirdEbb", name := "noIsland", desc := "(I)Z" } : Jvm.MethodName)) ∈ lw_all := lw_g (lw_at lw_m1 202 rfl) rfl
theorem q252 : (Jvm.Cond.privateMethod ({ cls := "ThirdEbb", name := "noIsland", desc := "(I)Z" } : Jvm.MethodName)) ∈ lw_tbl := lw_at lw_m1 203 rfl
theorem q253 : (Jvm.Cond.instanceMethod ({ cls := "ThirdEbb", name := "noIsland", desc := "(I)Z" } : Jvm.MethodName)) ∈ lw_all := lw_g (lw_at lw_m1 204 rfl) rfl
theorem q254 : (Jvm.Cond.code ({ cls := "ThirdEbb", name := "noIsland", desc := "(I)Z" } : Jvm.MethodName) prog_1_method_6_code (2 : Nat) (Option.some Jvm.ClassFile.FieldType.boolean)) ∈ lw_all := lw_g (lw_at lw_m1 205 rfl) rfl
theorem q255 : (Jvm.Cond.constantLong "ThirdEbb" (77 : Nat) (2 : Int64)) ∈ lw_all := lw_g (lw_at lw_m1 206 rfl) rfl
theorem q256 : (Jvm.Cond.constantLong "ThirdEbb" (145 : Nat) (400 : Int64)) ∈ lw_all := lw_g (lw_at lw_m1 207 rfl) rfl
theorem q257 : (Jvm.Cond.constantLong "ThirdEbb" (79 : Nat) (6 : Int64)) ∈ lw_all := lw_g (lw_at lw_m1 208 rfl) rfl
theorem q258 : (Jvm.Cond.classLink "ThirdEbb" (147 : Nat) "ThirdEbb$Soft") ∈ lw_all := lw_g (lw_at lw_m1 209 rfl) rfl
theorem q260 : (Jvm.Cond.methodLink "ThirdEbb" (149 : Nat) ({ cls := "ThirdEbb$Soft", name := "<init>", desc := "(LThirdEbb;IIIII)V" } : Jvm.MethodName)) ∈ lw_all := lw_g (lw_at lw_m1 211 rfl) rfl
theorem q270 : (Jvm.Cond.fieldLink "ThirdEbb" (181 : Nat) "ThirdEbb$Soft" "number" "I") ∈ lw_all := lw_g (lw_at lw_m1 221 rfl) rfl
theorem q278 : (Jvm.Cond.fieldLink "ThirdEbb" (167 : Nat) "ThirdEbb$Soft" "mended" "I") ∈ lw_all := lw_g (lw_at lw_m1 229 rfl) rfl
theorem q295 : (Jvm.Cond.classLink "ThirdEbb" (152 : Nat) "ThirdEbb$Bridged") ∈ lw_all := lw_g (lw_at lw_m2 6 rfl) rfl
theorem q297 : (Jvm.Cond.methodLink "ThirdEbb" (154 : Nat) ({ cls := "ThirdEbb$Bridged", name := "<init>", desc := "(LThirdEbb;IIIII)V" } : Jvm.MethodName)) ∈ lw_all := lw_g (lw_at lw_m2 8 rfl) rfl
theorem q312 : (Jvm.Cond.classLink "ThirdEbb" (155 : Nat) "ThirdEbb$Shifting") ∈ lw_all := lw_g (lw_at lw_m2 23 rfl) rfl
theorem q314 : (Jvm.Cond.methodLink "ThirdEbb" (157 : Nat) ({ cls := "ThirdEbb$Shifting", name := "<init>", desc := "(LThirdEbb;IIIII)V" } : Jvm.MethodName)) ∈ lw_all := lw_g (lw_at lw_m2 25 rfl) rfl
theorem q330 : (Jvm.Cond.interfaceEntry "ThirdEbb" (97 : Nat)) ∈ lw_tbl := lw_at lw_m2 41 rfl
theorem q331 : (Jvm.Cond.methodLink "ThirdEbb" (97 : Nat) ({ cls := "java/util/List", name := "add", desc := "(Ljava/lang/Object;)Z" } : Jvm.MethodName)) ∈ lw_all := lw_g (lw_at lw_m2 42 rfl) rfl
theorem q367 : (Jvm.Cond.selects "ThirdEbb" ({ cls := "java/lang/Object", name := "getClass", desc := "()Ljava/lang/Class;" } : Jvm.MethodName) ({ cls := "java/lang/Object", name := "getClass", desc := "()Ljava/lang/Class;" } : Jvm.MethodName)) ∈ lw_all := lw_g (lw_at lw_m2 78 rfl) rfl
theorem q400 : (Jvm.Cond.instanceMethod ({ cls := "ThirdEbb", name := "ofRoad", desc := "(II)I" } : Jvm.MethodName)) ∈ lw_all := lw_g (lw_at lw_m2 111 rfl) rfl
theorem q401 : (Jvm.Cond.selects "ThirdEbb" ({ cls := "ThirdEbb", name := "ofRoad", desc := "(II)I" } : Jvm.MethodName) ({ cls := "ThirdEbb", name := "ofRoad", desc := "(II)I" } : Jvm.MethodName)) ∈ lw_all := lw_g (lw_at lw_m2 112 rfl) rfl
theorem q402 : (Jvm.Cond.code ({ cls := "ThirdEbb", name := "ofRoad", desc := "(II)I" } : Jvm.MethodName) prog_1_method_19_code (3 : Nat) (Option.some Jvm.ClassFile.FieldType.int)) ∈ lw_all := lw_g (lw_at lw_m2 113 rfl) rfl
theorem q403 : (Jvm.Cond.methodLink "ThirdEbb" (158 : Nat) ({ cls := "ThirdEbb", name := "noRoad", desc := "(I)Z" } : Jvm.MethodName)) ∈ lw_all := lw_g (lw_at lw_m2 114 rfl) rfl
theorem q404 : (Jvm.Cond.privateMethod ({ cls := "ThirdEbb", name := "noRoad", desc := "(I)Z" } : Jvm.MethodName)) ∈ lw_tbl := lw_at lw_m2 115 rfl
theorem q405 : (Jvm.Cond.instanceMethod ({ cls := "ThirdEbb", name := "noRoad", desc := "(I)Z" } : Jvm.MethodName)) ∈ lw_all := lw_g (lw_at lw_m2 116 rfl) rfl
theorem q406 : (Jvm.Cond.code ({ cls := "ThirdEbb", name := "noRoad", desc := "(I)Z" } : Jvm.MethodName) prog_1_method_17_code (2 : Nat) (Option.some Jvm.ClassFile.FieldType.boolean)) ∈ lw_all := lw_g (lw_at lw_m2 117 rfl) rfl
theorem q407 : (Jvm.Cond.methodLink "ThirdEbb" (161 : Nat) ({ cls := "ThirdEbb$Soft", name := "asked", desc := "(I)I" } : Jvm.MethodName)) ∈ lw_all := lw_g (lw_at lw_m2 118 rfl) rfl
theorem q426 : (Jvm.Cond.instanceMethod ({ cls := "ThirdEbb", name := "mend", desc := "(I)I" } : Jvm.MethodName)) ∈ lw_all := lw_g (lw_at lw_m2 137 rfl) rfl
theorem q427 : (Jvm.Cond.selects "ThirdEbb" ({ cls := "ThirdEbb", name := "mend", desc := "(I)I" } : Jvm.MethodName) ({ cls := "ThirdEbb", name := "mend", desc := "(I)I" } : Jvm.MethodName)) ∈ lw_all := lw_g (lw_at lw_m2 138 rfl) rfl
theorem q428 : (Jvm.Cond.code ({ cls := "ThirdEbb", name := "mend", desc := "(I)I" } : Jvm.MethodName) prog_1_method_20_code (3 : Nat) (Option.some Jvm.ClassFile.FieldType.int)) ∈ lw_all := lw_g (lw_at lw_m2 139 rfl) rfl
theorem q429 : (Jvm.Cond.methodLink "ThirdEbb" (164 : Nat) ({ cls := "ThirdEbb$Soft", name := "kind", desc := "()I" } : Jvm.MethodName)) ∈ lw_all := lw_g (lw_at lw_m2 140 rfl) rfl
theorem q431 : (Jvm.Cond.instanceMethod ({ cls := "ThirdEbb", name := "height", desc := "(II)I" } : Jvm.MethodName)) ∈ lw_all := lw_g (lw_at lw_m2 142 rfl) rfl
theorem q432 : (Jvm.Cond.selects "ThirdEbb" ({ cls := "ThirdEbb", name := "height", desc := "(II)I" } : Jvm.MethodName) ({ cls := "ThirdEbb", name := "height", desc := "(II)I" } : Jvm.MethodName)) ∈ lw_all := lw_g (lw_at lw_m2 143 rfl) rfl
theorem q433 : (Jvm.Cond.code ({ cls := "ThirdEbb", name := "height", desc := "(II)I" } : Jvm.MethodName) prog_1_method_21_code (3 : Nat) (Option.some Jvm.ClassFile.FieldType.int)) ∈ lw_all := lw_g (lw_at lw_m2 144 rfl) rfl
theorem q434 : (Jvm.Cond.methodLink "ThirdEbb" (170 : Nat) ({ cls := "ThirdEbb$Soft", name := "heightIn", desc := "(I)I" } : Jvm.MethodName)) ∈ lw_all := lw_g (lw_at lw_m2 145 rfl) rfl
theorem q449 : (Jvm.Cond.instanceMethod ({ cls := "ThirdEbb", name := "dry", desc := "(II)I" } : Jvm.MethodName)) ∈ lw_all := lw_g (lw_at lw_m2 160 rfl) rfl
theorem q450 : (Jvm.Cond.selects "ThirdEbb" ({ cls := "ThirdEbb", name := "dry", desc := "(II)I" } : Jvm.MethodName) ({ cls := "ThirdEbb", name := "dry", desc := "(II)I" } : Jvm.MethodName)) ∈ lw_all := lw_g (lw_at lw_m2 161 rfl) rfl
theorem q451 : (Jvm.Cond.code ({ cls := "ThirdEbb", name := "dry", desc := "(II)I" } : Jvm.MethodName) prog_1_method_23_code (3 : Nat) (Option.some Jvm.ClassFile.FieldType.int)) ∈ lw_all := lw_g (lw_at lw_m2 162 rfl) rfl
theorem q452 : (Jvm.Cond.methodLink "ThirdEbb" (173 : Nat) ({ cls := "ThirdEbb", name := "isDry", desc := "(LThirdEbb$Soft;I)Z" } : Jvm.MethodName)) ∈ lw_all := lw_g (lw_at lw_m2 163 rfl) rfl
theorem q453 : (Jvm.Cond.privateMethod ({ cls := "ThirdEbb", name := "isDry", desc := "(LThirdEbb$Soft;I)Z" } : Jvm.MethodName)) ∈ lw_tbl := lw_at lw_m2 164 rfl
theorem q454 : (Jvm.Cond.instanceMethod ({ cls := "ThirdEbb", name := "isDry", desc := "(LThirdEbb$Soft;I)Z" } : Jvm.MethodName)) ∈ lw_all := lw_g (lw_at lw_m2 165 rfl) rfl
theorem q455 : (Jvm.Cond.code ({ cls := "ThirdEbb", name := "isDry", desc := "(LThirdEbb$Soft;I)Z" } : Jvm.MethodName) prog_1_method_22_code (3 : Nat) (Option.some Jvm.ClassFile.FieldType.boolean)) ∈ lw_all := lw_g (lw_at lw_m2 166 rfl) rfl
theorem q457 : (Jvm.Cond.instanceMethod ({ cls := "ThirdEbb", name := "dryHours", desc := "(IIII)J" } : Jvm.MethodName)) ∈ lw_all := lw_g (lw_at lw_m2 168 rfl) rfl
theorem q458 : (Jvm.Cond.selects "ThirdEbb" ({ cls := "ThirdEbb", name := "dryHours", desc := "(IIII)J" } : Jvm.MethodName) ({ cls := "ThirdEbb", name := "dryHours", desc := "(IIII)J" } : Jvm.MethodName)) ∈ lw_all := lw_g (lw_at lw_m2 169 rfl) rfl
theorem q459 : (Jvm.Cond.code ({ cls := "ThirdEbb", name := "dryHours", desc := "(IIII)J" } : Jvm.MethodName) prog_1_method_24_code (7 : Nat) (Option.some Jvm.ClassFile.FieldType.long)) ∈ lw_all := lw_g (lw_at lw_m2 170 rfl) rfl
theorem q460 : (Jvm.Cond.constantLong "ThirdEbb" (177 : Nat) (2000 : Int64)) ∈ lw_all := lw_g (lw_at lw_m2 171 rfl) rfl
theorem q461 : (Jvm.Cond.constantLong "ThirdEbb" (179 : Nat) (-9223372036854775808 : Int64)) ∈ lw_all := lw_g (lw_at lw_m2 172 rfl) rfl
theorem q463 : (Jvm.Cond.instanceMethod ({ cls := "ThirdEbb", name := "next", desc := "(IIZ)I" } : Jvm.MethodName)) ∈ lw_all := lw_g (lw_at lw_m2 174 rfl) rfl
theorem q464 : (Jvm.Cond.selects "ThirdEbb" ({ cls := "ThirdEbb", name := "next", desc := "(IIZ)I" } : Jvm.MethodName) ({ cls := "ThirdEbb", name := "next", desc := "(IIZ)I" } : Jvm.MethodName)) ∈ lw_all := lw_g (lw_at lw_m2 175 rfl) rfl
theorem q465 : (Jvm.Cond.code ({ cls := "ThirdEbb", name := "next", desc := "(IIZ)I" } : Jvm.MethodName) prog_1_method_28_code (5 : Nat) (Option.some Jvm.ClassFile.FieldType.int)) ∈ lw_all := lw_g (lw_at lw_m2 176 rfl) rfl
theorem q466 : (Jvm.Cond.methodLink "ThirdEbb" (188 : Nat) ({ cls := "ThirdEbb", name := "layLevels", desc := "()V" } : Jvm.MethodName)) ∈ lw_all := lw_g (lw_at lw_m2 177 rfl) rfl
theorem q467 : (Jvm.Cond.privateMethod ({ cls := "ThirdEbb", name := "layLevels", desc := "()V" } : Jvm.MethodName)) ∈ lw_tbl := lw_at lw_m2 178 rfl
theorem q468 : (Jvm.Cond.instanceMethod ({ cls := "ThirdEbb", name := "layLevels", desc := "()V" } : Jvm.MethodName)) ∈ lw_all := lw_g (lw_at lw_m2 179 rfl) rfl
theorem q469 : (Jvm.Cond.code ({ cls := "ThirdEbb", name := "layLevels", desc := "()V" } : Jvm.MethodName) prog_1_method_26_code (2 : Nat) (Option.none : Option Jvm.ClassFile.FieldType)) ∈ lw_all := lw_g (lw_at lw_m2 180 rfl) rfl
theorem q470 : (Jvm.Cond.methodLink "ThirdEbb" (191 : Nat) ({ cls := "ThirdEbb", name := "layStarts", desc := "(LThirdEbb$Soft;Z)V" } : Jvm.MethodName)) ∈ lw_all := lw_g (lw_at lw_m2 181 rfl) rfl
theorem q471 : (Jvm.Cond.privateMethod ({ cls := "ThirdEbb", name := "layStarts", desc := "(LThirdEbb$Soft;Z)V" } : Jvm.MethodName)) ∈ lw_tbl := lw_at lw_m2 182 rfl
theorem q472 : (Jvm.Cond.instanceMethod ({ cls := "ThirdEbb", name := "layStarts", desc := "(LThirdEbb$Soft;Z)V" } : Jvm.MethodName)) ∈ lw_all := lw_g (lw_at lw_m2 183 rfl) rfl
theorem q473 : (Jvm.Cond.code ({ cls := "ThirdEbb", name := "layStarts", desc := "(LThirdEbb$Soft;Z)V" } : Jvm.MethodName) prog_1_method_25_code (6 : Nat) (Option.none : Option Jvm.ClassFile.FieldType)) ∈ lw_all := lw_g (lw_at lw_m2 184 rfl) rfl
theorem q474 : (Jvm.Cond.methodLink "ThirdEbb" (184 : Nat) ({ cls := "ThirdEbb$Soft", name := "takes", desc := "(Z)I" } : Jvm.MethodName)) ∈ lw_all := lw_g (lw_at lw_m2 185 rfl) rfl
theorem q482 : (Jvm.Cond.instanceMethod ({ cls := "ThirdEbb", name := "soonest", desc := "(IIIZ)I" } : Jvm.MethodName)) ∈ lw_all := lw_g (lw_at lw_m2 193 rfl) rfl
theorem q483 : (Jvm.Cond.selects "ThirdEbb" ({ cls := "ThirdEbb", name := "soonest", desc := "(IIIZ)I" } : Jvm.MethodName) ({ cls := "ThirdEbb", name := "soonest", desc := "(IIIZ)I" } : Jvm.MethodName)) ∈ lw_all := lw_g (lw_at lw_m2 194 rfl) rfl
theorem q484 : (Jvm.Cond.code ({ cls := "ThirdEbb", name := "soonest", desc := "(IIIZ)I" } : Jvm.MethodName) prog_1_method_31_code (5 : Nat) (Option.some Jvm.ClassFile.FieldType.int)) ∈ lw_all := lw_g (lw_at lw_m2 195 rfl) rfl
theorem q485 : (Jvm.Cond.methodLink "ThirdEbb" (209 : Nat) ({ cls := "ThirdEbb", name := "layAll", desc := "(Z)V" } : Jvm.MethodName)) ∈ lw_all := lw_g (lw_at lw_m2 196 rfl) rfl
theorem q486 : (Jvm.Cond.privateMethod ({ cls := "ThirdEbb", name := "layAll", desc := "(Z)V" } : Jvm.MethodName)) ∈ lw_tbl := lw_at lw_m2 197 rfl
theorem q487 : (Jvm.Cond.instanceMethod ({ cls := "ThirdEbb", name := "layAll", desc := "(Z)V" } : Jvm.MethodName)) ∈ lw_all := lw_g (lw_at lw_m2 198 rfl) rfl
theorem q488 : (Jvm.Cond.code ({ cls := "ThirdEbb", name := "layAll", desc := "(Z)V" } : Jvm.MethodName) prog_1_method_27_code (3 : Nat) (Option.none : Option Jvm.ClassFile.FieldType)) ∈ lw_all := lw_g (lw_at lw_m2 199 rfl) rfl
theorem q489 : (Jvm.Cond.methodLink "ThirdEbb" (213 : Nat) ({ cls := "ThirdEbb", name := "go", desc := "(IIZ)V" } : Jvm.MethodName)) ∈ lw_all := lw_g (lw_at lw_m2 200 rfl) rfl
theorem q490 : (Jvm.Cond.privateMethod ({ cls := "ThirdEbb", name := "go", desc := "(IIZ)V" } : Jvm.MethodName)) ∈ lw_tbl := lw_at lw_m2 201 rfl
theorem q491 : (Jvm.Cond.instanceMethod ({ cls := "ThirdEbb", name := "go", desc := "(IIZ)V" } : Jvm.MethodName)) ∈ lw_all := lw_g (lw_at lw_m2 202 rfl) rfl
theorem q492 : (Jvm.Cond.code ({ cls := "ThirdEbb", name := "go", desc := "(IIZ)V" } : Jvm.MethodName) prog_1_method_29_code (11 : Nat) (Option.none : Option Jvm.ClassFile.FieldType)) ∈ lw_all := lw_g (lw_at lw_m2 203 rfl) rfl
theorem q493 : (Jvm.Cond.methodLink "ThirdEbb" (195 : Nat) ({ cls := "ThirdEbb", name := "isIn", desc := "(II)Z" } : Jvm.MethodName)) ∈ lw_all := lw_g (lw_at lw_m2 204 rfl) rfl
theorem q494 : (Jvm.Cond.static ({ cls := "ThirdEbb", name := "isIn", desc := "(II)Z" } : Jvm.MethodName)) ∈ lw_all := lw_g (lw_at lw_m2 205 rfl) rfl
theorem q495 : (Jvm.Cond.code ({ cls := "ThirdEbb", name := "isIn", desc := "(II)Z" } : Jvm.MethodName) prog_1_method_2_code (2 : Nat) (Option.some Jvm.ClassFile.FieldType.boolean)) ∈ lw_all := lw_g (lw_at lw_m2 206 rfl) rfl
theorem q496 : (Jvm.Cond.methodLink "ThirdEbb" (198 : Nat) ({ cls := "ThirdEbb$Soft", name := "joins", desc := "(I)Z" } : Jvm.MethodName)) ∈ lw_all := lw_g (lw_at lw_m2 207 rfl) rfl
theorem q503 : (Jvm.Cond.methodLink "ThirdEbb" (201 : Nat) ({ cls := "ThirdEbb$Soft", name := "other", desc := "(I)I" } : Jvm.MethodName)) ∈ lw_all := lw_g (lw_at lw_m2 214 rfl) rfl
theorem q510 : (Jvm.Cond.methodLink "ThirdEbb" (204 : Nat) ({ cls := "java/lang/Math", name := "min", desc := "(II)I" } : Jvm.MethodName)) ∈ lw_all := lw_g (lw_at lw_m2 221 rfl) rfl
theorem q511 : (Jvm.Cond.methodLink "ThirdEbb" (217 : Nat) ({ cls := "ThirdEbb", name := "told", desc := "(I)I" } : Jvm.MethodName)) ∈ lw_all := lw_g (lw_at lw_m2 222 rfl) rfl
theorem q512 : (Jvm.Cond.static ({ cls := "ThirdEbb", name := "told", desc := "(I)I" } : Jvm.MethodName)) ∈ lw_all := lw_g (lw_at lw_m2 223 rfl) rfl
theorem q513 : (Jvm.Cond.code ({ cls := "ThirdEbb", name := "told", desc := "(I)I" } : Jvm.MethodName) prog_1_method_30_code (1 : Nat) (Option.some Jvm.ClassFile.FieldType.int)) ∈ lw_all := lw_g (lw_at lw_m2 224 rfl) rfl
theorem q515 : (Jvm.Cond.instanceMethod ({ cls := "ThirdEbb", name := "way", desc := "(IIIZI)I" } : Jvm.MethodName)) ∈ lw_all := lw_g (lw_at lw_m2 226 rfl) rfl
theorem q516 : (Jvm.Cond.selects "ThirdEbb" ({ cls := "ThirdEbb", name := "way", desc := "(IIIZI)I" } : Jvm.MethodName) ({ cls := "ThirdEbb", name := "way", desc := "(IIIZI)I" } : Jvm.MethodName)) ∈ lw_all := lw_g (lw_at lw_m2 227 rfl) rfl
theorem q517 : (Jvm.Cond.code ({ cls := "ThirdEbb", name := "way", desc := "(IIIZI)I" } : Jvm.MethodName) prog_1_method_33_code (8 : Nat) (Option.some Jvm.ClassFile.FieldType.int)) ∈ lw_all := lw_g (lw_at lw_m2 228 rfl) rfl
theorem q518 : (Jvm.Cond.methodLink "ThirdEbb" (220 : Nat) ({ cls := "ThirdEbb", name := "cameBy", desc := "(IZ)I" } : Jvm.MethodName)) ∈ lw_all := lw_g (lw_at lw_m2 229 rfl) rfl
theorem q519 : (Jvm.Cond.privateMethod ({ cls := "ThirdEbb", name := "cameBy", desc := "(IZ)I" } : Jvm.MethodName)) ∈ lw_tbl := lw_at lw_m2 230 rfl
theorem q520 : (Jvm.Cond.instanceMethod ({ cls := "ThirdEbb", name := "cameBy", desc := "(IZ)I" } : Jvm.MethodName)) ∈ lw_all := lw_g (lw_at lw_m2 231 rfl) rfl
theorem q521 : (Jvm.Cond.code ({ cls := "ThirdEbb", name := "cameBy", desc := "(IZ)I" } : Jvm.MethodName) prog_1_method_32_code (8 : Nat) (Option.some Jvm.ClassFile.FieldType.int)) ∈ lw_all := lw_g (lw_at lw_m2 232 rfl) rfl
theorem q523 : (Jvm.Cond.instanceMethod ({ cls := "ThirdEbb", name := "latest", desc := "(IIIZ)I" } : Jvm.MethodName)) ∈ lw_all := lw_g (lw_at lw_m2 234 rfl) rfl
theorem q524 : (Jvm.Cond.selects "ThirdEbb" ({ cls := "ThirdEbb", name := "latest", desc := "(IIIZ)I" } : Jvm.MethodName) ({ cls := "ThirdEbb", name := "latest", desc := "(IIIZ)I" } : Jvm.MethodName)) ∈ lw_all := lw_g (lw_at lw_m2 235 rfl) rfl
theorem q525 : (Jvm.Cond.code ({ cls := "ThirdEbb", name := "latest", desc := "(IIIZ)I" } : Jvm.MethodName) prog_1_method_34_code (8 : Nat) (Option.some Jvm.ClassFile.FieldType.int)) ∈ lw_all := lw_g (lw_at lw_m2 236 rfl) rfl
theorem q527 : (Jvm.Cond.instanceMethod ({ cls := "ThirdEbb", name := "round", desc := "(III)I" } : Jvm.MethodName)) ∈ lw_all := lw_g (lw_at lw_m2 238 rfl) rfl
theorem q528 : (Jvm.Cond.selects "ThirdEbb" ({ cls := "ThirdEbb", name := "round", desc := "(III)I" } : Jvm.MethodName) ({ cls := "ThirdEbb", name := "round", desc := "(III)I" } : Jvm.MethodName)) ∈ lw_all := lw_g (lw_at lw_m2 239 rfl) rfl
theorem q529 : (Jvm.Cond.code ({ cls := "ThirdEbb", name := "round", desc := "(III)I" } : Jvm.MethodName) prog_1_method_36_code (4 : Nat) (Option.some Jvm.ClassFile.FieldType.int)) ∈ lw_all := lw_g (lw_at lw_m3 0 rfl) rfl
theorem q530 : (Jvm.Cond.constantLong "ThirdEbb" (237 : Nat) (-1 : Int64)) ∈ lw_all := lw_g (lw_at lw_m3 1 rfl) rfl
theorem q531 : (Jvm.Cond.methodLink "ThirdEbb" (233 : Nat) ({ cls := "ThirdEbb", name := "tryRounds", desc := "(IIII)V" } : Jvm.MethodName)) ∈ lw_all := lw_g (lw_at lw_m3 2 rfl) rfl
theorem q532 : (Jvm.Cond.privateMethod ({ cls := "ThirdEbb", name := "tryRounds", desc := "(IIII)V" } : Jvm.MethodName)) ∈ lw_tbl := lw_at lw_m3 3 rfl
theorem q533 : (Jvm.Cond.instanceMethod ({ cls := "ThirdEbb", name := "tryRounds", desc := "(IIII)V" } : Jvm.MethodName)) ∈ lw_all := lw_g (lw_at lw_m3 4 rfl) rfl
theorem q534 : (Jvm.Cond.code ({ cls := "ThirdEbb", name := "tryRounds", desc := "(IIII)V" } : Jvm.MethodName) prog_1_method_35_code (6 : Nat) (Option.none : Option Jvm.ClassFile.FieldType)) ∈ lw_all := lw_g (lw_at lw_m3 5 rfl) rfl
theorem q535 : (Jvm.Cond.methodLink "ThirdEbb" (227 : Nat) ({ cls := "java/lang/System", name := "arraycopy", desc := "(Ljava/lang/Object;ILjava/lang/Object;II)V" } : Jvm.MethodName)) ∈ lw_all := lw_g (lw_at lw_m3 6 rfl) rfl
theorem q537 : (Jvm.Cond.instanceMethod ({ cls := "ThirdEbb", name := "meeting", desc := "(III)I" } : Jvm.MethodName)) ∈ lw_all := lw_g (lw_at lw_m3 8 rfl) rfl
theorem q538 : (Jvm.Cond.selects "ThirdEbb" ({ cls := "ThirdEbb", name := "meeting", desc := "(III)I" } : Jvm.MethodName) ({ cls := "ThirdEbb", name := "meeting", desc := "(III)I" } : Jvm.MethodName)) ∈ lw_all := lw_g (lw_at lw_m3 9 rfl) rfl
theorem q539 : (Jvm.Cond.code ({ cls := "ThirdEbb", name := "meeting", desc := "(III)I" } : Jvm.MethodName) prog_1_method_37_code (6 : Nat) (Option.some Jvm.ClassFile.FieldType.int)) ∈ lw_all := lw_g (lw_at lw_m3 10 rfl) rfl
theorem q540 : (Jvm.Cond.methodLink "ThirdEbb" (239 : Nat) ({ cls := "java/lang/Math", name := "max", desc := "(II)I" } : Jvm.MethodName)) ∈ lw_all := lw_g (lw_at lw_m3 11 rfl) rfl
theorem q542 : (Jvm.Cond.instanceMethod ({ cls := "ThirdEbb", name := "saves", desc := "(IIII)I" } : Jvm.MethodName)) ∈ lw_all := lw_g (lw_at lw_m3 13 rfl) rfl
theorem q543 : (Jvm.Cond.selects "ThirdEbb" ({ cls := "ThirdEbb", name := "saves", desc := "(IIII)I" } : Jvm.MethodName) ({ cls := "ThirdEbb", name := "saves", desc := "(IIII)I" } : Jvm.MethodName)) ∈ lw_all := lw_g (lw_at lw_m3 14 rfl) rfl
theorem q544 : (Jvm.Cond.code ({ cls := "ThirdEbb", name := "saves", desc := "(IIII)I" } : Jvm.MethodName) prog_1_method_38_code (7 : Nat) (Option.some Jvm.ClassFile.FieldType.int)) ∈ lw_all := lw_g (lw_at lw_m3 15 rfl) rfl
theorem q546 : (Jvm.Cond.instanceMethod ({ cls := "ThirdEbb", name := "sheet", desc := "(III)I" } : Jvm.MethodName)) ∈ lw_all := lw_g (lw_at lw_m3 17 rfl) rfl
theorem q547 : (Jvm.Cond.selects "ThirdEbb" ({ cls := "ThirdEbb", name := "sheet", desc := "(III)I" } : Jvm.MethodName) ({ cls := "ThirdEbb", name := "sheet", desc := "(III)I" } : Jvm.MethodName)) ∈ lw_all := lw_g (lw_at lw_m3 18 rfl) rfl
theorem q548 : (Jvm.Cond.codeWith ({ cls := "ThirdEbb", name := "sheet", desc := "(III)I" } : Jvm.MethodName) prog_1_method_50_code (5 : Nat) (Option.some Jvm.ClassFile.FieldType.int) [((43 : Nat), (62 : Nat), (63 : Nat), (269 : Nat))]) ∈ lw_all := lw_g (lw_at lw_m3 19 rfl) rfl
theorem q549 : (Jvm.Cond.classLink "ThirdEbb" (269 : Nat) "java/lang/NegativeArraySizeException") ∈ lw_all := lw_g (lw_at lw_m3 20 rfl) rfl
theorem q636 : (Jvm.Cond.methodLink "ThirdEbb" (256 : Nat) ({ cls := "ThirdEbb", name := "noSheet", desc := "(I)Z" } : Jvm.MethodName)) ∈ lw_all := lw_g (lw_at lw_m3 107 rfl) rfl
theorem q637 : (Jvm.Cond.static ({ cls := "ThirdEbb", name := "noSheet", desc := "(I)Z" } : Jvm.MethodName)) ∈ lw_all := lw_g (lw_at lw_m3 108 rfl) rfl
theorem q638 : (Jvm.Cond.code ({ cls := "ThirdEbb", name := "noSheet", desc := "(I)Z" } : Jvm.MethodName) prog_1_method_48_code (1 : Nat) (Option.some Jvm.ClassFile.FieldType.boolean)) ∈ lw_all := lw_g (lw_at lw_m3 109 rfl) rfl
theorem q639 : (Jvm.Cond.constantLong "ThirdEbb" (250 : Nat) (3 : Int64)) ∈ lw_all := lw_g (lw_at lw_m3 110 rfl) rfl
theorem q640 : (Jvm.Cond.methodLink "ThirdEbb" (259 : Nat) ({ cls := "ThirdEbb", name := "refused", desc := "(I)I" } : Jvm.MethodName)) ∈ lw_all := lw_g (lw_at lw_m3 111 rfl) rfl
theorem q641 : (Jvm.Cond.privateMethod ({ cls := "ThirdEbb", name := "refused", desc := "(I)I" } : Jvm.MethodName)) ∈ lw_tbl := lw_at lw_m3 112 rfl
theorem q642 : (Jvm.Cond.instanceMethod ({ cls := "ThirdEbb", name := "refused", desc := "(I)I" } : Jvm.MethodName)) ∈ lw_all := lw_g (lw_at lw_m3 113 rfl) rfl
theorem q643 : (Jvm.Cond.code ({ cls := "ThirdEbb", name := "refused", desc := "(I)I" } : Jvm.MethodName) prog_1_method_41_code (2 : Nat) (Option.some Jvm.ClassFile.FieldType.int)) ∈ lw_all := lw_g (lw_at lw_m3 114 rfl) rfl
theorem q645 : (Jvm.Cond.methodLink "ThirdEbb" (262 : Nat) ({ cls := "ThirdEbb", name := "rowOf", desc := "(II)Ljava/lang/Object;" } : Jvm.MethodName)) ∈ lw_all := lw_g (lw_at lw_m3 116 rfl) rfl
theorem q646 : (Jvm.Cond.static ({ cls := "ThirdEbb", name := "rowOf", desc := "(II)Ljava/lang/Object;" } : Jvm.MethodName)) ∈ lw_all := lw_g (lw_at lw_m3 117 rfl) rfl
theorem q647 : (Jvm.Cond.code ({ cls := "ThirdEbb", name := "rowOf", desc := "(II)Ljava/lang/Object;" } : Jvm.MethodName) prog_1_method_44_code (2 : Nat) (Option.some (Jvm.ClassFile.FieldType.object "java/lang/Object"))) ∈ lw_all := lw_g (lw_at lw_m3 118 rfl) rfl
theorem q648 : (Jvm.Cond.methodLink "ThirdEbb" (266 : Nat) ({ cls := "ThirdEbb$Sheet", name := "<init>", desc := "(Ljava/lang/Object;)V" } : Jvm.MethodName)) ∈ lw_all := lw_g (lw_at lw_m3 119 rfl) rfl
theorem q653 : (Jvm.Cond.fieldLink "ThirdEbb" (252 : Nat) "ThirdEbb$Sheet" "row" "Ljava/lang/Object;") ∈ lw_all := lw_g (lw_at lw_m3 124 rfl) rfl
theorem q658 : (Jvm.Cond.methodLink "ThirdEbb" (271 : Nat) ({ cls := "ThirdEbb", name := "fails", desc := "(I)I" } : Jvm.MethodName)) ∈ lw_all := lw_g (lw_at lw_m3 129 rfl) rfl
theorem q659 : (Jvm.Cond.privateMethod ({ cls := "ThirdEbb", name := "fails", desc := "(I)I" } : Jvm.MethodName)) ∈ lw_tbl := lw_at lw_m3 130 rfl
theorem q660 : (Jvm.Cond.instanceMethod ({ cls := "ThirdEbb", name := "fails", desc := "(I)I" } : Jvm.MethodName)) ∈ lw_all := lw_g (lw_at lw_m3 131 rfl) rfl
theorem q661 : (Jvm.Cond.code ({ cls := "ThirdEbb", name := "fails", desc := "(I)I" } : Jvm.MethodName) prog_1_method_42_code (2 : Nat) (Option.some Jvm.ClassFile.FieldType.int)) ∈ lw_all := lw_g (lw_at lw_m3 132 rfl) rfl
theorem q663 : (Jvm.Cond.instanceMethod ({ cls := "ThirdEbb", name := "lose", desc := "(I)I" } : Jvm.MethodName)) ∈ lw_all := lw_g (lw_at lw_m3 134 rfl) rfl
theorem q664 : (Jvm.Cond.selects "ThirdEbb" ({ cls := "ThirdEbb", name := "lose", desc := "(I)I" } : Jvm.MethodName) ({ cls := "ThirdEbb", name := "lose", desc := "(I)I" } : Jvm.MethodName)) ∈ lw_all := lw_g (lw_at lw_m3 135 rfl) rfl
theorem q665 : (Jvm.Cond.code ({ cls := "ThirdEbb", name := "lose", desc := "(I)I" } : Jvm.MethodName) prog_1_method_51_code (3 : Nat) (Option.some Jvm.ClassFile.FieldType.int)) ∈ lw_all := lw_g (lw_at lw_m3 136 rfl) rfl
theorem q667 : (Jvm.Cond.instanceMethod ({ cls := "ThirdEbb", name := "put", desc := "(III)I" } : Jvm.MethodName)) ∈ lw_all := lw_g (lw_at lw_m3 138 rfl) rfl
theorem q668 : (Jvm.Cond.selects "ThirdEbb" ({ cls := "ThirdEbb", name := "put", desc := "(III)I" } : Jvm.MethodName) ({ cls := "ThirdEbb", name := "put", desc := "(III)I" } : Jvm.MethodName)) ∈ lw_all := lw_g (lw_at lw_m3 139 rfl) rfl
theorem q669 : (Jvm.Cond.codeWith ({ cls := "ThirdEbb", name := "put", desc := "(III)I" } : Jvm.MethodName) prog_1_method_52_code (5 : Nat) (Option.some Jvm.ClassFile.FieldType.int) [((18 : Nat), (33 : Nat), (34 : Nat), (278 : Nat)), ((18 : Nat), (33 : Nat), (42 : Nat), (280 : Nat))]) ∈ lw_all := lw_g (lw_at lw_m3 140 rfl) rfl
theorem q670 : (Jvm.Cond.classLink "ThirdEbb" (278 : Nat) "java/lang/NullPointerException") ∈ lw_all := lw_g (lw_at lw_m3 141 rfl) rfl
theorem q695 : (Jvm.Cond.classLink "ThirdEbb" (280 : Nat) "java/lang/IndexOutOfBoundsException") ∈ lw_all := lw_g (lw_at lw_m3 166 rfl) rfl
theorem q714 : (Jvm.Cond.methodLink "ThirdEbb" (274 : Nat) ({ cls := "ThirdEbb", name := "setIn", desc := "(Ljava/lang/Object;II)V" } : Jvm.MethodName)) ∈ lw_all := lw_g (lw_at lw_m3 185 rfl) rfl
theorem q715 : (Jvm.Cond.static ({ cls := "ThirdEbb", name := "setIn", desc := "(Ljava/lang/Object;II)V" } : Jvm.MethodName)) ∈ lw_all := lw_g (lw_at lw_m3 186 rfl) rfl
theorem q716 : (Jvm.Cond.code ({ cls := "ThirdEbb", name := "setIn", desc := "(Ljava/lang/Object;II)V" } : Jvm.MethodName) prog_1_method_47_code (3 : Nat) (Option.none : Option Jvm.ClassFile.FieldType)) ∈ lw_all := lw_g (lw_at lw_m3 187 rfl) rfl
theorem q717 : (Jvm.Cond.classLink "ThirdEbb" (245 : Nat) "[B") ∈ lw_all := lw_g (lw_at lw_m3 188 rfl) rfl
theorem q718 : (Jvm.Cond.classLink "ThirdEbb" (247 : Nat) "[S") ∈ lw_all := lw_g (lw_at lw_m3 189 rfl) rfl
theorem q719 : (Jvm.Cond.classLink "ThirdEbb" (249 : Nat) "[I") ∈ lw_all := lw_g (lw_at lw_m3 190 rfl) rfl
theorem q721 : (Jvm.Cond.instanceMethod ({ cls := "ThirdEbb", name := "cell", desc := "(III)J" } : Jvm.MethodName)) ∈ lw_all := lw_g (lw_at lw_m3 192 rfl) rfl
theorem q722 : (Jvm.Cond.selects "ThirdEbb" ({ cls := "ThirdEbb", name := "cell", desc := "(III)J" } : Jvm.MethodName) ({ cls := "ThirdEbb", name := "cell", desc := "(III)J" } : Jvm.MethodName)) ∈ lw_all := lw_g (lw_at lw_m3 193 rfl) rfl
theorem q723 : (Jvm.Cond.codeWith ({ cls := "ThirdEbb", name := "cell", desc := "(III)J" } : Jvm.MethodName) prog_1_method_53_code (5 : Nat) (Option.some Jvm.ClassFile.FieldType.long) [((28 : Nat), (39 : Nat), (40 : Nat), (278 : Nat)), ((28 : Nat), (39 : Nat), (48 : Nat), (293 : Nat)), ((28 : Nat), (39 : Nat), (56 : Nat), (280 : Nat))]) ∈ lw_all := lw_g (lw_at lw_m3 194 rfl) rfl
theorem q724 : (Jvm.Cond.classLink "ThirdEbb" (293 : Nat) "java/lang/ClassCastException") ∈ lw_all := lw_g (lw_at lw_m3 195 rfl) rfl
theorem q738 : (Jvm.Cond.methodLink "ThirdEbb" (282 : Nat) ({ cls := "ThirdEbb", name := "rowIn", desc := "(I)Ljava/lang/Object;" } : Jvm.MethodName)) ∈ lw_all := lw_g (lw_at lw_m3 209 rfl) rfl
theorem q739 : (Jvm.Cond.privateMethod ({ cls := "ThirdEbb", name := "rowIn", desc := "(I)Ljava/lang/Object;" } : Jvm.MethodName)) ∈ lw_tbl := lw_at lw_m3 210 rfl
theorem q740 : (Jvm.Cond.instanceMethod ({ cls := "ThirdEbb", name := "rowIn", desc := "(I)Ljava/lang/Object;" } : Jvm.MethodName)) ∈ lw_all := lw_g (lw_at lw_m3 211 rfl) rfl
theorem q741 : (Jvm.Cond.code ({ cls := "ThirdEbb", name := "rowIn", desc := "(I)Ljava/lang/Object;" } : Jvm.MethodName) prog_1_method_49_code (2 : Nat) (Option.some (Jvm.ClassFile.FieldType.object "java/lang/Object"))) ∈ lw_all := lw_g (lw_at lw_m3 212 rfl) rfl
theorem q742 : (Jvm.Cond.methodLink "ThirdEbb" (285 : Nat) ({ cls := "ThirdEbb", name := "cellOf", desc := "(Ljava/lang/Object;II)I" } : Jvm.MethodName)) ∈ lw_all := lw_g (lw_at lw_m3 213 rfl) rfl
theorem q743 : (Jvm.Cond.static ({ cls := "ThirdEbb", name := "cellOf", desc := "(Ljava/lang/Object;II)I" } : Jvm.MethodName)) ∈ lw_all := lw_g (lw_at lw_m3 214 rfl) rfl
theorem q744 : (Jvm.Cond.code ({ cls := "ThirdEbb", name := "cellOf", desc := "(Ljava/lang/Object;II)I" } : Jvm.MethodName) prog_1_method_45_code (3 : Nat) (Option.some Jvm.ClassFile.FieldType.int)) ∈ lw_all := lw_g (lw_at lw_m3 215 rfl) rfl
theorem q745 : (Jvm.Cond.methodLink "ThirdEbb" (289 : Nat) ({ cls := "ThirdEbb", name := "failsLong", desc := "(I)J" } : Jvm.MethodName)) ∈ lw_all := lw_g (lw_at lw_m3 216 rfl) rfl
theorem q746 : (Jvm.Cond.privateMethod ({ cls := "ThirdEbb", name := "failsLong", desc := "(I)J" } : Jvm.MethodName)) ∈ lw_tbl := lw_at lw_m3 217 rfl
theorem q747 : (Jvm.Cond.instanceMethod ({ cls := "ThirdEbb", name := "failsLong", desc := "(I)J" } : Jvm.MethodName)) ∈ lw_all := lw_g (lw_at lw_m3 218 rfl) rfl
theorem q748 : (Jvm.Cond.code ({ cls := "ThirdEbb", name := "failsLong", desc := "(I)J" } : Jvm.MethodName) prog_1_method_43_code (2 : Nat) (Option.some Jvm.ClassFile.FieldType.long)) ∈ lw_all := lw_g (lw_at lw_m3 219 rfl) rfl
theorem q750 : (Jvm.Cond.instanceMethod ({ cls := "ThirdEbb", name := "sea", desc := "(IIII)I" } : Jvm.MethodName)) ∈ lw_all := lw_g (lw_at lw_m3 221 rfl) rfl
theorem q751 : (Jvm.Cond.selects "ThirdEbb" ({ cls := "ThirdEbb", name := "sea", desc := "(IIII)I" } : Jvm.MethodName) ({ cls := "ThirdEbb", name := "sea", desc := "(IIII)I" } : Jvm.MethodName)) ∈ lw_all := lw_g (lw_at lw_m3 222 rfl) rfl
theorem q752 : (Jvm.Cond.code ({ cls := "ThirdEbb", name := "sea", desc := "(IIII)I" } : Jvm.MethodName) prog_1_method_57_code (5 : Nat) (Option.some Jvm.ClassFile.FieldType.int)) ∈ lw_all := lw_g (lw_at lw_m3 223 rfl) rfl
theorem q753 : (Jvm.Cond.classLink "ThirdEbb" (318 : Nat) "ThirdEbb$Filling") ∈ lw_all := lw_g (lw_at lw_m3 224 rfl) rfl
theorem q755 : (Jvm.Cond.methodLink "ThirdEbb" (320 : Nat) ({ cls := "ThirdEbb$Filling", name := "<init>", desc := "(LThirdEbb;IIII)V" } : Jvm.MethodName)) ∈ lw_all := lw_g (lw_at lw_m3 226 rfl) rfl
theorem q767 : (Jvm.Cond.fieldLink "ThirdEbb" (307 : Nat) "ThirdEbb$Looking" "sheet" "I") ∈ lw_all := lw_g (lw_at lw_m3 238 rfl) rfl
theorem q769 : (Jvm.Cond.fieldLink "ThirdEbb" (312 : Nat) "ThirdEbb$Looking" "sort" "I") ∈ lw_all := lw_g (lw_at lw_m4 0 rfl) rfl
theorem q789 : (Jvm.Cond.methodLink "ThirdEbb" (323 : Nat) ({ cls := "ThirdEbb", name := "looked", desc := "(LThirdEbb$Looking;Z)I" } : Jvm.MethodName)) ∈ lw_all := lw_g (lw_at lw_m4 20 rfl) rfl
theorem q790 : (Jvm.Cond.privateMethod ({ cls := "ThirdEbb", name := "looked", desc := "(LThirdEbb$Looking;Z)I" } : Jvm.MethodName)) ∈ lw_tbl := lw_at lw_m4 21 rfl
theorem q791 : (Jvm.Cond.instanceMethod ({ cls := "ThirdEbb", name := "looked", desc := "(LThirdEbb$Looking;Z)I" } : Jvm.MethodName)) ∈ lw_all := lw_g (lw_at lw_m4 22 rfl) rfl
theorem q792 : (Jvm.Cond.code ({ cls := "ThirdEbb", name := "looked", desc := "(LThirdEbb$Looking;Z)I" } : Jvm.MethodName) prog_1_method_56_code (3 : Nat) (Option.some Jvm.ClassFile.FieldType.int)) ∈ lw_all := lw_g (lw_at lw_m4 23 rfl) rfl
theorem q793 : (Jvm.Cond.methodLink "ThirdEbb" (315 : Nat) ({ cls := "ThirdEbb$Looking", name := "tried", desc := "()I" } : Jvm.MethodName)) ∈ lw_all := lw_g (lw_at lw_m4 24 rfl) rfl
theorem q827 : (Jvm.Cond.static ({ cls := "ThirdEbb", name := "cellsOf", desc := "(Ljava/lang/Object;III)[I" } : Jvm.MethodName)) ∈ lw_all := lw_g (lw_at lw_m4 58 rfl) rfl
theorem q828 : (Jvm.Cond.code ({ cls := "ThirdEbb", name := "cellsOf", desc := "(Ljava/lang/Object;III)[I" } : Jvm.MethodName) prog_1_method_55_code (8 : Nat) (Option.some (Jvm.ClassFile.FieldType.array Jvm.ClassFile.FieldType.int))) ∈ lw_all := lw_g (lw_at lw_m4 59 rfl) rfl
theorem q829 : (Jvm.Cond.methodLink "ThirdEbb" (300 : Nat) ({ cls := "ThirdEbb", name := "sizeOf", desc := "(Ljava/lang/Object;I)I" } : Jvm.MethodName)) ∈ lw_all := lw_g (lw_at lw_m4 60 rfl) rfl
theorem q830 : (Jvm.Cond.static ({ cls := "ThirdEbb", name := "sizeOf", desc := "(Ljava/lang/Object;I)I" } : Jvm.MethodName)) ∈ lw_all := lw_g (lw_at lw_m4 61 rfl) rfl
theorem q831 : (Jvm.Cond.code ({ cls := "ThirdEbb", name := "sizeOf", desc := "(Ljava/lang/Object;I)I" } : Jvm.MethodName) prog_1_method_46_code (2 : Nat) (Option.some Jvm.ClassFile.FieldType.int)) ∈ lw_all := lw_g (lw_at lw_m4 62 rfl) rfl
theorem q832 : (Jvm.Cond.methodLink "ThirdEbb" (304 : Nat) ({ cls := "ThirdEbb", name := "need", desc := "(Z)V" } : Jvm.MethodName)) ∈ lw_all := lw_g (lw_at lw_m4 63 rfl) rfl
theorem q833 : (Jvm.Cond.static ({ cls := "ThirdEbb", name := "need", desc := "(Z)V" } : Jvm.MethodName)) ∈ lw_all := lw_g (lw_at lw_m4 64 rfl) rfl
theorem q834 : (Jvm.Cond.code ({ cls := "ThirdEbb", name := "need", desc := "(Z)V" } : Jvm.MethodName) prog_1_method_54_code (1 : Nat) (Option.none : Option Jvm.ClassFile.FieldType)) ∈ lw_all := lw_g (lw_at lw_m4 65 rfl) rfl
theorem q843 : (Jvm.Cond.stringRef "ThirdEbb" (295 : Nat) "not all there") ∈ lw_tbl := lw_at lw_m4 74 rfl
theorem q844 : (Jvm.Cond.methodLink "ThirdEbb" (297 : Nat) ({ cls := "java/lang/IndexOutOfBoundsException", name := "<init>", desc := "(Ljava/lang/String;)V" } : Jvm.MethodName)) ∈ lw_all := lw_g (lw_at lw_m4 75 rfl) rfl
theorem q854 : (Jvm.Cond.static ({ cls := "ThirdEbb", name := "monthsOf", desc := "([I)I" } : Jvm.MethodName)) ∈ lw_all := lw_g (lw_at lw_m4 85 rfl) rfl
theorem q855 : (Jvm.Cond.code ({ cls := "ThirdEbb", name := "monthsOf", desc := "([I)I" } : Jvm.MethodName) prog_1_method_40_code (5 : Nat) (Option.some Jvm.ClassFile.FieldType.int)) ∈ lw_all := lw_g (lw_at lw_m4 86 rfl) rfl
theorem q860 : (Jvm.Cond.privateMethod ({ cls := "ThirdEbb", name := "firstFalse", desc := "(I[I)I" } : Jvm.MethodName)) ∈ lw_tbl := lw_at lw_m4 91 rfl
theorem q861 : (Jvm.Cond.instanceMethod ({ cls := "ThirdEbb", name := "firstFalse", desc := "(I[I)I" } : Jvm.MethodName)) ∈ lw_all := lw_g (lw_at lw_m4 92 rfl) rfl
theorem q862 : (Jvm.Cond.code ({ cls := "ThirdEbb", name := "firstFalse", desc := "(I[I)I" } : Jvm.MethodName) prog_1_method_39_code (4 : Nat) (Option.some Jvm.ClassFile.FieldType.int)) ∈ lw_all := lw_g (lw_at lw_m4 93 rfl) rfl
theorem q867 : (Jvm.Cond.privateMethod ({ cls := "ThirdEbb", name := "newSea", desc := "([I)I" } : Jvm.MethodName)) ∈ lw_tbl := lw_at lw_m4 98 rfl
theorem q868 : (Jvm.Cond.instanceMethod ({ cls := "ThirdEbb", name := "newSea", desc := "([I)I" } : Jvm.MethodName)) ∈ lw_all := lw_g (lw_at lw_m4 99 rfl) rfl
theorem q869 : (Jvm.Cond.code ({ cls := "ThirdEbb", name := "newSea", desc := "([I)I" } : Jvm.MethodName) prog_1_method_10_code (8 : Nat) (Option.some Jvm.ClassFile.FieldType.int)) ∈ lw_all := lw_g (lw_at lw_m4 100 rfl) rfl
theorem q870 : (Jvm.Cond.methodLink "ThirdEbb" (73 : Nat) ({ cls := "ThirdEbb", name := "digitAt", desc := "([II)I" } : Jvm.MethodName)) ∈ lw_all := lw_g (lw_at lw_m4 101 rfl) rfl
theorem q871 : (Jvm.Cond.static ({ cls := "ThirdEbb", name := "digitAt", desc := "([II)I" } : Jvm.MethodName)) ∈ lw_all := lw_g (lw_at lw_m4 102 rfl) rfl
theorem q872 : (Jvm.Cond.code ({ cls := "ThirdEbb", name := "digitAt", desc := "([II)I" } : Jvm.MethodName) prog_1_method_8_code (3 : Nat) (Option.some Jvm.ClassFile.FieldType.int)) ∈ lw_all := lw_g (lw_at lw_m4 103 rfl) rfl
theorem q873 : (Jvm.Cond.constantLong "ThirdEbb" (71 : Nat) (9 : Int64)) ∈ lw_all := lw_g (lw_at lw_m4 104 rfl) rfl
theorem q874 : (Jvm.Cond.methodLink "ThirdEbb" (81 : Nat) ({ cls := "java/util/ArrayList", name := "<init>", desc := "(I)V" } : Jvm.MethodName)) ∈ lw_all := lw_g (lw_at lw_m4 105 rfl) rfl
theorem q879 : (Jvm.Cond.interfaceEntry "ThirdEbb" (84 : Nat)) ∈ lw_tbl := lw_at lw_m4 110 rfl
theorem q880 : (Jvm.Cond.methodLink "ThirdEbb" (84 : Nat) ({ cls := "java/util/List", name := "isEmpty", desc := "()Z" } : Jvm.MethodName)) ∈ lw_all := lw_g (lw_at lw_m4 111 rfl) rfl
theorem q888 : (Jvm.Cond.methodLink "ThirdEbb" (88 : Nat) ({ cls := "ThirdEbb", name := "twoAt", desc := "([IIII)I" } : Jvm.MethodName)) ∈ lw_all := lw_g (lw_at lw_m4 119 rfl) rfl
theorem q889 : (Jvm.Cond.static ({ cls := "ThirdEbb", name := "twoAt", desc := "([IIII)I" } : Jvm.MethodName)) ∈ lw_all := lw_g (lw_at lw_m4 120 rfl) rfl
theorem q890 : (Jvm.Cond.code ({ cls := "ThirdEbb", name := "twoAt", desc := "([IIII)I" } : Jvm.MethodName) prog_1_method_9_code (6 : Nat) (Option.some Jvm.ClassFile.FieldType.int)) ∈ lw_all := lw_g (lw_at lw_m4 121 rfl) rfl
theorem q892 : (Jvm.Cond.methodLink "ThirdEbb" (94 : Nat) ({ cls := "ThirdEbb$Moon", name := "<init>", desc := "(III)V" } : Jvm.MethodName)) ∈ lw_all := lw_g (lw_at lw_m4 123 rfl) rfl
theorem q897 : (Jvm.Cond.fieldLinkNest "ThirdEbb" (116 : Nat) "ThirdEbb$Moon" "month" "I" "ThirdEbb") ∈ lw_tbl := lw_at lw_m4 128 rfl
theorem q899 : (Jvm.Cond.fieldLinkNest "ThirdEbb" (119 : Nat) "ThirdEbb$Moon" "pull" "I" "ThirdEbb") ∈ lw_tbl := lw_at lw_m4 130 rfl
theorem q901 : (Jvm.Cond.fieldLinkNest "ThirdEbb" (122 : Nat) "ThirdEbb$Moon" "age" "I" "ThirdEbb") ∈ lw_tbl := lw_at lw_m4 132 rfl
theorem q909 : (Jvm.Cond.interfaceEntry "ThirdEbb" (101 : Nat)) ∈ lw_tbl := lw_at lw_m4 140 rfl
theorem q910 : (Jvm.Cond.methodLink "ThirdEbb" (101 : Nat) ({ cls := "java/util/List", name := "clear", desc := "()V" } : Jvm.MethodName)) ∈ lw_all := lw_g (lw_at lw_m4 141 rfl) rfl
theorem q918 : (Jvm.Cond.interfaceEntry "ThirdEbb" (104 : Nat)) ∈ lw_tbl := lw_at lw_m4 149 rfl
theorem q919 : (Jvm.Cond.methodLink "ThirdEbb" (104 : Nat) ({ cls := "java/util/List", name := "addAll", desc := "(Ljava/util/Collection;)Z" } : Jvm.MethodName)) ∈ lw_all := lw_g (lw_at lw_m4 150 rfl) rfl
theorem q952 : (Jvm.Cond.instanceMethod ({ cls := "ThirdEbb", name := "table", desc := "(IIIII)I" } : Jvm.MethodName)) ∈ lw_all := lw_g (lw_at lw_m4 183 rfl) rfl
theorem q953 : (Jvm.Cond.selects "ThirdEbb" ({ cls := "ThirdEbb", name := "table", desc := "(IIIII)I" } : Jvm.MethodName) ({ cls := "ThirdEbb", name := "table", desc := "(IIIII)I" } : Jvm.MethodName)) ∈ lw_all := lw_g (lw_at lw_m4 184 rfl) rfl
theorem q954 : (Jvm.Cond.code ({ cls := "ThirdEbb", name := "table", desc := "(IIIII)I" } : Jvm.MethodName) prog_1_method_58_code (6 : Nat) (Option.some Jvm.ClassFile.FieldType.int)) ∈ lw_all := lw_g (lw_at lw_m4 185 rfl) rfl
theorem q955 : (Jvm.Cond.classLink "ThirdEbb" (327 : Nat) "ThirdEbb$Checking") ∈ lw_all := lw_g (lw_at lw_m4 186 rfl) rfl
theorem q957 : (Jvm.Cond.methodLink "ThirdEbb" (329 : Nat) ({ cls := "ThirdEbb$Checking", name := "<init>", desc := "(LThirdEbb;IIIII)V" } : Jvm.MethodName)) ∈ lw_all := lw_g (lw_at lw_m4 188 rfl) rfl
theorem q975 : (Jvm.Cond.instanceMethod ({ cls := "ThirdEbb", name := "book", desc := "(IIII)I" } : Jvm.MethodName)) ∈ lw_all := lw_g (lw_at lw_m4 206 rfl) rfl
theorem q976 : (Jvm.Cond.selects "ThirdEbb" ({ cls := "ThirdEbb", name := "book", desc := "(IIII)I" } : Jvm.MethodName) ({ cls := "ThirdEbb", name := "book", desc := "(IIII)I" } : Jvm.MethodName)) ∈ lw_all := lw_g (lw_at lw_m4 207 rfl) rfl
theorem q977 : (Jvm.Cond.code ({ cls := "ThirdEbb", name := "book", desc := "(IIII)I" } : Jvm.MethodName) prog_1_method_59_code (5 : Nat) (Option.some Jvm.ClassFile.FieldType.int)) ∈ lw_all := lw_g (lw_at lw_m4 208 rfl) rfl
theorem q978 : (Jvm.Cond.classLink "ThirdEbb" (330 : Nat) "ThirdEbb$Booking") ∈ lw_all := lw_g (lw_at lw_m4 209 rfl) rfl
theorem q980 : (Jvm.Cond.methodLink "ThirdEbb" (332 : Nat) ({ cls := "ThirdEbb$Booking", name := "<init>", desc := "(LThirdEbb;IIII)V" } : Jvm.MethodName)) ∈ lw_all := lw_g (lw_at lw_m4 211 rfl) rfl
theorem q995 : (Jvm.Cond.instanceMethod ({ cls := "ThirdEbb", name := "copy", desc := "(IIIII)I" } : Jvm.MethodName)) ∈ lw_all := lw_g (lw_at lw_m4 226 rfl) rfl
theorem q996 : (Jvm.Cond.selects "ThirdEbb" ({ cls := "ThirdEbb", name := "copy", desc := "(IIIII)I" } : Jvm.MethodName) ({ cls := "ThirdEbb", name := "copy", desc := "(IIIII)I" } : Jvm.MethodName)) ∈ lw_all := lw_g (lw_at lw_m4 227 rfl) rfl
theorem q997 : (Jvm.Cond.code ({ cls := "ThirdEbb", name := "copy", desc := "(IIIII)I" } : Jvm.MethodName) prog_1_method_60_code (6 : Nat) (Option.some Jvm.ClassFile.FieldType.int)) ∈ lw_all := lw_g (lw_at lw_m4 228 rfl) rfl
theorem q998 : (Jvm.Cond.classLink "ThirdEbb" (333 : Nat) "ThirdEbb$Copying") ∈ lw_all := lw_g (lw_at lw_m4 229 rfl) rfl
theorem q1000 : (Jvm.Cond.methodLink "ThirdEbb" (335 : Nat) ({ cls := "ThirdEbb$Copying", name := "<init>", desc := "(LThirdEbb;IIIII)V" } : Jvm.MethodName)) ∈ lw_all := lw_g (lw_at lw_m4 231 rfl) rfl
theorem q1024 : (Jvm.Cond.methodLink "ThirdEbb" (336 : Nat) ({ cls := "ThirdEbb$Copying", name := "tried", desc := "()I" } : Jvm.MethodName)) ∈ lw_all := lw_g (lw_at lw_m5 15 rfl) rfl
theorem q1028 : (Jvm.Cond.instanceMethod ({ cls := "ThirdEbb", name := "tell", desc := "(I)I" } : Jvm.MethodName)) ∈ lw_all := lw_g (lw_at lw_m5 19 rfl) rfl
theorem q1029 : (Jvm.Cond.selects "ThirdEbb" ({ cls := "ThirdEbb", name := "tell", desc := "(I)I" } : Jvm.MethodName) ({ cls := "ThirdEbb", name := "tell", desc := "(I)I" } : Jvm.MethodName)) ∈ lw_all := lw_g (lw_at lw_m5 20 rfl) rfl
theorem q1030 : (Jvm.Cond.code ({ cls := "ThirdEbb", name := "tell", desc := "(I)I" } : Jvm.MethodName) prog_1_method_61_code (2 : Nat) (Option.some Jvm.ClassFile.FieldType.int)) ∈ lw_all := lw_g (lw_at lw_m5 21 rfl) rfl
theorem q1031 : (Jvm.Cond.methodLink "ThirdEbb" (337 : Nat) ({ cls := "ThirdEbb$Soft", name := "said", desc := "()I" } : Jvm.MethodName)) ∈ lw_all := lw_g (lw_at lw_m5 22 rfl) rfl
theorem q1062 : (Jvm.Cond.instanceMethod ({ cls := "ThirdEbb", name := "stake", desc := "(I)I" } : Jvm.MethodName)) ∈ lw_all := lw_g (lw_at lw_m5 53 rfl) rfl
theorem q1063 : (Jvm.Cond.selects "ThirdEbb" ({ cls := "ThirdEbb", name := "stake", desc := "(I)I" } : Jvm.MethodName) ({ cls := "ThirdEbb", name := "stake", desc := "(I)I" } : Jvm.MethodName)) ∈ lw_all := lw_g (lw_at lw_m5 54 rfl) rfl
theorem q1064 : (Jvm.Cond.code ({ cls := "ThirdEbb", name := "stake", desc := "(I)I" } : Jvm.MethodName) prog_1_method_62_code (3 : Nat) (Option.some Jvm.ClassFile.FieldType.int)) ∈ lw_all := lw_g (lw_at lw_m5 55 rfl) rfl
theorem q1065 : (Jvm.Cond.classLink "ThirdEbb" (340 : Nat) "ThirdEbb$Staked") ∈ lw_all := lw_g (lw_at lw_m5 56 rfl) rfl
theorem q1066 : (Jvm.Cond.interfaceEntry "ThirdEbb" (342 : Nat)) ∈ lw_tbl := lw_at lw_m5 57 rfl
theorem q1067 : (Jvm.Cond.methodLink "ThirdEbb" (342 : Nat) ({ cls := "ThirdEbb$Staked", name := "staked", desc := "()I" } : Jvm.MethodName)) ∈ lw_all := lw_g (lw_at lw_m5 58 rfl) rfl
theorem q1108 : (Jvm.Cond.instanceMethod ({ cls := "ThirdEbb", name := "as", desc := "(II)I" } : Jvm.MethodName)) ∈ lw_all := lw_g (lw_at lw_m5 99 rfl) rfl
theorem q1109 : (Jvm.Cond.selects "ThirdEbb" ({ cls := "ThirdEbb", name := "as", desc := "(II)I" } : Jvm.MethodName) ({ cls := "ThirdEbb", name := "as", desc := "(II)I" } : Jvm.MethodName)) ∈ lw_all := lw_g (lw_at lw_m5 100 rfl) rfl
theorem q1110 : (Jvm.Cond.code ({ cls := "ThirdEbb", name := "as", desc := "(II)I" } : Jvm.MethodName) prog_1_method_63_code (3 : Nat) (Option.some Jvm.ClassFile.FieldType.int)) ∈ lw_all := lw_g (lw_at lw_m5 101 rfl) rfl
theorem q1111 : (Jvm.Cond.classLink "ThirdEbb" (345 : Nat) "ThirdEbb$Taking") ∈ lw_all := lw_g (lw_at lw_m5 102 rfl) rfl
theorem q1113 : (Jvm.Cond.methodLink "ThirdEbb" (347 : Nat) ({ cls := "ThirdEbb$Taking", name := "<init>", desc := "(LThirdEbb;LThirdEbb$Soft;I)V" } : Jvm.MethodName)) ∈ lw_all := lw_g (lw_at lw_m5 104 rfl) rfl
theorem q1128 : (Jvm.Cond.methodLink "ThirdEbb" (350 : Nat) ({ cls := "ThirdEbb$Taking", name := "tried", desc := "()I" } : Jvm.MethodName)) ∈ lw_all := lw_g (lw_at lw_m5 119 rfl) rfl
theorem q1132 : (Jvm.Cond.instanceMethod ({ cls := "ThirdEbb", name := "trace", desc := "()I" } : Jvm.MethodName)) ∈ lw_all := lw_g (lw_at lw_m5 123 rfl) rfl
theorem q1133 : (Jvm.Cond.selects "ThirdEbb" ({ cls := "ThirdEbb", name := "trace", desc := "()I" } : Jvm.MethodName) ({ cls := "ThirdEbb", name := "trace", desc := "()I" } : Jvm.MethodName)) ∈ lw_all := lw_g (lw_at lw_m5 124 rfl) rfl
theorem q1134 : (Jvm.Cond.code ({ cls := "ThirdEbb", name := "trace", desc := "()I" } : Jvm.MethodName) prog_1_method_64_code (1 : Nat) (Option.some Jvm.ClassFile.FieldType.int)) ∈ lw_all := lw_g (lw_at lw_m5 125 rfl) rfl
theorem q1136 : (Jvm.Cond.instanceMethod ({ cls := "ThirdEbb", name := "fault", desc := "()I" } : Jvm.MethodName)) ∈ lw_all := lw_g (lw_at lw_m5 127 rfl) rfl
theorem q1137 : (Jvm.Cond.selects "ThirdEbb" ({ cls := "ThirdEbb", name := "fault", desc := "()I" } : Jvm.MethodName) ({ cls := "ThirdEbb", name := "fault", desc := "()I" } : Jvm.MethodName)) ∈ lw_all := lw_g (lw_at lw_m5 128 rfl) rfl
theorem q1138 : (Jvm.Cond.code ({ cls := "ThirdEbb", name := "fault", desc := "()I" } : Jvm.MethodName) prog_1_method_65_code (1 : Nat) (Option.some Jvm.ClassFile.FieldType.int)) ∈ lw_all := lw_g (lw_at lw_m5 129 rfl) rfl
theorem q1140 : (Jvm.Cond.instanceMethod ({ cls := "ThirdEbb", name := "many", desc := "(I)I" } : Jvm.MethodName)) ∈ lw_all := lw_g (lw_at lw_m5 131 rfl) rfl
theorem q1141 : (Jvm.Cond.selects "ThirdEbb" ({ cls := "ThirdEbb", name := "many", desc := "(I)I" } : Jvm.MethodName) ({ cls := "ThirdEbb", name := "many", desc := "(I)I" } : Jvm.MethodName)) ∈ lw_all := lw_g (lw_at lw_m5 132 rfl) rfl
theorem q1142 : (Jvm.Cond.code ({ cls := "ThirdEbb", name := "many", desc := "(I)I" } : Jvm.MethodName) prog_1_method_66_code (2 : Nat) (Option.some Jvm.ClassFile.FieldType.int)) ∈ lw_all := lw_g (lw_at lw_m5 133 rfl) rfl
theorem q1501 : (Jvm.Cond.castable "ThirdEbb" "java/lang/Object") ∈ lw_tbl := lw_at lw_m7 12 rfl
theorem in_X0 : ∀ w ∈ wsX00, w ∈ lw_all := lw_in wsX00 [137, 139, 141, 143, 145, 147, 149, 151, 153, 155, 157, 159, 161, 163] (by decide +kernel) (by decide +kernel)
