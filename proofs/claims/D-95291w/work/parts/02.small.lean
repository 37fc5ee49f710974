/-! DECODE ROWS BY BYTES: one lemma an opcode; a method's code is cut into short pieces once, and a row reads its own piece alone. -/
set_option maxRecDepth 100000
/-- the code has just these bytes from pc on -/
def DkAt (code : ByteArray) (pc : Nat) (bs : List UInt8) : Prop := ∀ (j : Nat) (b : UInt8), bs[j]? = some b → code.data.toList[pc + j]? = some b
/-- the piece W has the bytes bs from its place j on -/
def dkIn (W : List UInt8) (j : Nat) (bs : List UInt8) : Bool := decide ((W.drop j).take bs.length = bs)
theorem dk_seg {l W T : List UInt8} {o o2 : Nat} (h : l.drop o = W ++ T) (n : Nat) (hn : W.length = n) (ho : o + n = o2) : l.drop o2 = T := by
  subst ho
  rw [← List.drop_drop, h, List.drop_left' hn]
theorem dk_at {code : ByteArray} {W T bs : List UInt8} {o pc : Nat} (h : code.data.toList.drop o = W ++ T) (j : Nat) (hp : o + j = pc) (hw : dkIn W j bs = true) : DkAt code pc bs := by
  subst hp
  intro i b e
  have h1 := of_decide_eq_true hw
  have h2 : i < bs.length := (List.getElem?_eq_some_iff.mp e).1
  have h3 : W[j + i]? = some b := by
    rw [← h1, List.getElem?_take, if_pos h2, List.getElem?_drop] at e
    exact e
  have h4 : j + i < W.length := (List.getElem?_eq_some_iff.mp h3).1
  have h5 : (code.data.toList.drop o)[j + i]? = some b := by
    rw [h, List.getElem?_append_left h4]
    exact h3
  rw [List.getElem?_drop, ← Nat.add_assoc] at h5
  exact h5
theorem dk_u1 {A : ByteArray} {p : Nat} {b : UInt8} (h : A.data.toList[p]? = some b) : (Reader.u1 : Reader DecodeError Nat) A p = .ok (b.toNat, p + 1) := by
  obtain ⟨h1, h2⟩ := List.getElem?_eq_some_iff.mp h
  have h3 : p < A.size := by simpa using h1
  have h4 : A[p]'h3 = b := h2
  have e : (Reader.u1 : Reader DecodeError Nat) A p = (if h : p < A.size then .ok (A[p].toNat, p + 1) else .error (HasTruncated.truncated p)) := by
    show (do if h : p < A.size then do set (p + 1); Pure.pure A[p].toNat else MonadExcept.throw (HasTruncated.truncated p) : Reader DecodeError Nat) A p = _
    by_cases hi : p < A.size
    · rw [dif_pos hi, dif_pos hi]; rfl
    · rw [dif_neg hi, dif_neg hi]; rfl
  rw [e, dif_pos h3, h4]
theorem dk_bind {α β : Type} {r : Reader DecodeError α} {f : α → Reader DecodeError β} {A : ByteArray} {p s : Nat} {a : α} (h : r A p = .ok (a, s)) : (r >>= f) A p = f a A s := by
  show (do let (a, s) ← r A p; f a A s : Except DecodeError (β × Nat)) = _
  rw [h]
  rfl
theorem dk_map {α β : Type} {r : Reader DecodeError α} {g : α → β} {A : ByteArray} {p s : Nat} {a : α} (h : r A p = .ok (a, s)) : (g <$> r) A p = .ok (g a, s) := by
  show (do let (a, s) ← r A p; .ok (g a, s) : Except DecodeError (β × Nat)) = _
  rw [h]
  rfl
theorem dk_u2 {A : ByteArray} {p : Nat} {a b : UInt8} (h : A.data.toList[p]? = some a) (h2 : A.data.toList[p + 1]? = some b) : (Reader.u2 : Reader DecodeError Nat) A p = .ok (a.toNat * 256 + b.toNat, p + 2) := by
  show (Reader.u1 >>= fun hi => Reader.u1 >>= fun lo => Pure.pure (hi * 256 + lo) : Reader DecodeError Nat) A p = _
  rw [dk_bind (dk_u1 h), dk_bind (dk_u1 h2)]
  rfl
theorem dk_of {code : ByteArray} {pc n : Nat} {i : Instr} (h : Decoder.instr pc code pc = .ok (i, pc + n)) : decode code pc = .ok (i, n) := by
  have e : decode code pc = (match Decoder.instr pc code pc with | .error x => .error x | .ok (j, s) => .ok (j, s - pc)) := by
    show (do let (j, s) ← Decoder.instr pc code pc; Pure.pure (j, s - pc) : Except DecodeError (Instr × Nat)) = _
    cases Decoder.instr pc code pc <;> rfl
  rw [e, h]
  show Except.ok (i, pc + n - pc) = _
  rw [Nat.add_sub_cancel_left]
theorem dk_1 {code : ByteArray} {pc : Nat} (h : DkAt code pc [1]) : decode code pc = .ok (.aconst_null, 1) := dk_of ((dk_bind (dk_u1 (h 0 _ rfl))).trans rfl)
theorem dk_2 {code : ByteArray} {pc : Nat} (h : DkAt code pc [2]) : decode code pc = .ok (.iconst (-1), 1) := dk_of ((dk_bind (dk_u1 (h 0 _ rfl))).trans rfl)
theorem dk_3 {code : ByteArray} {pc : Nat} (h : DkAt code pc [3]) : decode code pc = .ok (.iconst 0, 1) := dk_of ((dk_bind (dk_u1 (h 0 _ rfl))).trans rfl)
theorem dk_4 {code : ByteArray} {pc : Nat} (h : DkAt code pc [4]) : decode code pc = .ok (.iconst 1, 1) := dk_of ((dk_bind (dk_u1 (h 0 _ rfl))).trans rfl)
theorem dk_5 {code : ByteArray} {pc : Nat} (h : DkAt code pc [5]) : decode code pc = .ok (.iconst 2, 1) := dk_of ((dk_bind (dk_u1 (h 0 _ rfl))).trans rfl)
theorem dk_6 {code : ByteArray} {pc : Nat} (h : DkAt code pc [6]) : decode code pc = .ok (.iconst 3, 1) := dk_of ((dk_bind (dk_u1 (h 0 _ rfl))).trans rfl)
theorem dk_7 {code : ByteArray} {pc : Nat} (h : DkAt code pc [7]) : decode code pc = .ok (.iconst 4, 1) := dk_of ((dk_bind (dk_u1 (h 0 _ rfl))).trans rfl)
theorem dk_8 {code : ByteArray} {pc : Nat} (h : DkAt code pc [8]) : decode code pc = .ok (.iconst 5, 1) := dk_of ((dk_bind (dk_u1 (h 0 _ rfl))).trans rfl)
theorem dk_9 {code : ByteArray} {pc : Nat} (h : DkAt code pc [9]) : decode code pc = .ok (.lconst 0, 1) := dk_of ((dk_bind (dk_u1 (h 0 _ rfl))).trans rfl)
theorem dk_10 {code : ByteArray} {pc : Nat} (h : DkAt code pc [10]) : decode code pc = .ok (.lconst 1, 1) := dk_of ((dk_bind (dk_u1 (h 0 _ rfl))).trans rfl)
theorem dk_16 {code : ByteArray} {pc : Nat} (a : UInt8) (h : DkAt code pc [16, a]) : decode code pc = .ok (.bipush (Reader.signed 8 a.toNat), 2) := dk_of ((dk_bind (dk_u1 (h 0 _ rfl))).trans ((dk_bind (dk_map (dk_u1 (h 1 _ rfl)))).trans rfl))
theorem dk_17 {code : ByteArray} {pc : Nat} (a b : UInt8) (h : DkAt code pc [17, a, b]) : decode code pc = .ok (.sipush (Reader.signed 16 (a.toNat * 256 + b.toNat)), 3) := dk_of ((dk_bind (dk_u1 (h 0 _ rfl))).trans ((dk_bind (dk_map (dk_u2 (h 1 _ rfl) (h 2 _ rfl)))).trans rfl))
theorem dk_18 {code : ByteArray} {pc : Nat} (a : UInt8) (h : DkAt code pc [18, a]) : decode code pc = .ok (.ldc a.toNat, 2) := dk_of ((dk_bind (dk_u1 (h 0 _ rfl))).trans ((dk_bind (dk_u1 (h 1 _ rfl))).trans rfl))
theorem dk_19 {code : ByteArray} {pc : Nat} (a b : UInt8) (h : DkAt code pc [19, a, b]) : decode code pc = .ok (.ldc_w (a.toNat * 256 + b.toNat), 3) := dk_of ((dk_bind (dk_u1 (h 0 _ rfl))).trans ((dk_bind (dk_u2 (h 1 _ rfl) (h 2 _ rfl))).trans rfl))
theorem dk_20 {code : ByteArray} {pc : Nat} (a b : UInt8) (h : DkAt code pc [20, a, b]) : decode code pc = .ok (.ldc2_w (a.toNat * 256 + b.toNat), 3) := dk_of ((dk_bind (dk_u1 (h 0 _ rfl))).trans ((dk_bind (dk_u2 (h 1 _ rfl) (h 2 _ rfl))).trans rfl))
theorem dk_21 {code : ByteArray} {pc : Nat} (a : UInt8) (h : DkAt code pc [21, a]) : decode code pc = .ok (.iload a.toNat, 2) := dk_of ((dk_bind (dk_u1 (h 0 _ rfl))).trans ((dk_bind (dk_u1 (h 1 _ rfl))).trans rfl))
theorem dk_22 {code : ByteArray} {pc : Nat} (a : UInt8) (h : DkAt code pc [22, a]) : decode code pc = .ok (.lload a.toNat, 2) := dk_of ((dk_bind (dk_u1 (h 0 _ rfl))).trans ((dk_bind (dk_u1 (h 1 _ rfl))).trans rfl))
theorem dk_25 {code : ByteArray} {pc : Nat} (a : UInt8) (h : DkAt code pc [25, a]) : decode code pc = .ok (.aload a.toNat, 2) := dk_of ((dk_bind (dk_u1 (h 0 _ rfl))).trans ((dk_bind (dk_u1 (h 1 _ rfl))).trans rfl))
theorem dk_26 {code : ByteArray} {pc : Nat} (h : DkAt code pc [26]) : decode code pc = .ok (.iload_n 0, 1) := dk_of ((dk_bind (dk_u1 (h 0 _ rfl))).trans rfl)
theorem dk_27 {code : ByteArray} {pc : Nat} (h : DkAt code pc [27]) : decode code pc = .ok (.iload_n 1, 1) := dk_of ((dk_bind (dk_u1 (h 0 _ rfl))).trans rfl)
theorem dk_28 {code : ByteArray} {pc : Nat} (h : DkAt code pc [28]) : decode code pc = .ok (.iload_n 2, 1) := dk_of ((dk_bind (dk_u1 (h 0 _ rfl))).trans rfl)
theorem dk_29 {code : ByteArray} {pc : Nat} (h : DkAt code pc [29]) : decode code pc = .ok (.iload_n 3, 1) := dk_of ((dk_bind (dk_u1 (h 0 _ rfl))).trans rfl)
theorem dk_30 {code : ByteArray} {pc : Nat} (h : DkAt code pc [30]) : decode code pc = .ok (.lload_n 0, 1) := dk_of ((dk_bind (dk_u1 (h 0 _ rfl))).trans rfl)
theorem dk_32 {code : ByteArray} {pc : Nat} (h : DkAt code pc [32]) : decode code pc = .ok (.lload_n 2, 1) := dk_of ((dk_bind (dk_u1 (h 0 _ rfl))).trans rfl)
theorem dk_42 {code : ByteArray} {pc : Nat} (h : DkAt code pc [42]) : decode code pc = .ok (.aload_n 0, 1) := dk_of ((dk_bind (dk_u1 (h 0 _ rfl))).trans rfl)
theorem dk_43 {code : ByteArray} {pc : Nat} (h : DkAt code pc [43]) : decode code pc = .ok (.aload_n 1, 1) := dk_of ((dk_bind (dk_u1 (h 0 _ rfl))).trans rfl)
theorem dk_44 {code : ByteArray} {pc : Nat} (h : DkAt code pc [44]) : decode code pc = .ok (.aload_n 2, 1) := dk_of ((dk_bind (dk_u1 (h 0 _ rfl))).trans rfl)
theorem dk_45 {code : ByteArray} {pc : Nat} (h : DkAt code pc [45]) : decode code pc = .ok (.aload_n 3, 1) := dk_of ((dk_bind (dk_u1 (h 0 _ rfl))).trans rfl)
theorem dk_46 {code : ByteArray} {pc : Nat} (h : DkAt code pc [46]) : decode code pc = .ok (.iaload, 1) := dk_of ((dk_bind (dk_u1 (h 0 _ rfl))).trans rfl)
theorem dk_50 {code : ByteArray} {pc : Nat} (h : DkAt code pc [50]) : decode code pc = .ok (.aaload, 1) := dk_of ((dk_bind (dk_u1 (h 0 _ rfl))).trans rfl)
theorem dk_51 {code : ByteArray} {pc : Nat} (h : DkAt code pc [51]) : decode code pc = .ok (.baload, 1) := dk_of ((dk_bind (dk_u1 (h 0 _ rfl))).trans rfl)
theorem dk_53 {code : ByteArray} {pc : Nat} (h : DkAt code pc [53]) : decode code pc = .ok (.saload, 1) := dk_of ((dk_bind (dk_u1 (h 0 _ rfl))).trans rfl)
theorem dk_54 {code : ByteArray} {pc : Nat} (a : UInt8) (h : DkAt code pc [54, a]) : decode code pc = .ok (.istore a.toNat, 2) := dk_of ((dk_bind (dk_u1 (h 0 _ rfl))).trans ((dk_bind (dk_u1 (h 1 _ rfl))).trans rfl))
theorem dk_55 {code : ByteArray} {pc : Nat} (a : UInt8) (h : DkAt code pc [55, a]) : decode code pc = .ok (.lstore a.toNat, 2) := dk_of ((dk_bind (dk_u1 (h 0 _ rfl))).trans ((dk_bind (dk_u1 (h 1 _ rfl))).trans rfl))
theorem dk_58 {code : ByteArray} {pc : Nat} (a : UInt8) (h : DkAt code pc [58, a]) : decode code pc = .ok (.astore a.toNat, 2) := dk_of ((dk_bind (dk_u1 (h 0 _ rfl))).trans ((dk_bind (dk_u1 (h 1 _ rfl))).trans rfl))
theorem dk_60 {code : ByteArray} {pc : Nat} (h : DkAt code pc [60]) : decode code pc = .ok (.istore_n 1, 1) := dk_of ((dk_bind (dk_u1 (h 0 _ rfl))).trans rfl)
theorem dk_61 {code : ByteArray} {pc : Nat} (h : DkAt code pc [61]) : decode code pc = .ok (.istore_n 2, 1) := dk_of ((dk_bind (dk_u1 (h 0 _ rfl))).trans rfl)
theorem dk_62 {code : ByteArray} {pc : Nat} (h : DkAt code pc [62]) : decode code pc = .ok (.istore_n 3, 1) := dk_of ((dk_bind (dk_u1 (h 0 _ rfl))).trans rfl)
theorem dk_76 {code : ByteArray} {pc : Nat} (h : DkAt code pc [76]) : decode code pc = .ok (.astore_n 1, 1) := dk_of ((dk_bind (dk_u1 (h 0 _ rfl))).trans rfl)
theorem dk_77 {code : ByteArray} {pc : Nat} (h : DkAt code pc [77]) : decode code pc = .ok (.astore_n 2, 1) := dk_of ((dk_bind (dk_u1 (h 0 _ rfl))).trans rfl)
theorem dk_78 {code : ByteArray} {pc : Nat} (h : DkAt code pc [78]) : decode code pc = .ok (.astore_n 3, 1) := dk_of ((dk_bind (dk_u1 (h 0 _ rfl))).trans rfl)
theorem dk_79 {code : ByteArray} {pc : Nat} (h : DkAt code pc [79]) : decode code pc = .ok (.iastore, 1) := dk_of ((dk_bind (dk_u1 (h 0 _ rfl))).trans rfl)
theorem dk_83 {code : ByteArray} {pc : Nat} (h : DkAt code pc [83]) : decode code pc = .ok (.aastore, 1) := dk_of ((dk_bind (dk_u1 (h 0 _ rfl))).trans rfl)
theorem dk_84 {code : ByteArray} {pc : Nat} (h : DkAt code pc [84]) : decode code pc = .ok (.bastore, 1) := dk_of ((dk_bind (dk_u1 (h 0 _ rfl))).trans rfl)
theorem dk_86 {code : ByteArray} {pc : Nat} (h : DkAt code pc [86]) : decode code pc = .ok (.sastore, 1) := dk_of ((dk_bind (dk_u1 (h 0 _ rfl))).trans rfl)
theorem dk_87 {code : ByteArray} {pc : Nat} (h : DkAt code pc [87]) : decode code pc = .ok (.pop, 1) := dk_of ((dk_bind (dk_u1 (h 0 _ rfl))).trans rfl)
theorem dk_89 {code : ByteArray} {pc : Nat} (h : DkAt code pc [89]) : decode code pc = .ok (.dup, 1) := dk_of ((dk_bind (dk_u1 (h 0 _ rfl))).trans rfl)
theorem dk_90 {code : ByteArray} {pc : Nat} (h : DkAt code pc [90]) : decode code pc = .ok (.dup_x1, 1) := dk_of ((dk_bind (dk_u1 (h 0 _ rfl))).trans rfl)
theorem dk_92 {code : ByteArray} {pc : Nat} (h : DkAt code pc [92]) : decode code pc = .ok (.dup2, 1) := dk_of ((dk_bind (dk_u1 (h 0 _ rfl))).trans rfl)
theorem dk_96 {code : ByteArray} {pc : Nat} (h : DkAt code pc [96]) : decode code pc = .ok (.iadd, 1) := dk_of ((dk_bind (dk_u1 (h 0 _ rfl))).trans rfl)
theorem dk_97 {code : ByteArray} {pc : Nat} (h : DkAt code pc [97]) : decode code pc = .ok (.ladd, 1) := dk_of ((dk_bind (dk_u1 (h 0 _ rfl))).trans rfl)
theorem dk_100 {code : ByteArray} {pc : Nat} (h : DkAt code pc [100]) : decode code pc = .ok (.isub, 1) := dk_of ((dk_bind (dk_u1 (h 0 _ rfl))).trans rfl)
theorem dk_104 {code : ByteArray} {pc : Nat} (h : DkAt code pc [104]) : decode code pc = .ok (.imul, 1) := dk_of ((dk_bind (dk_u1 (h 0 _ rfl))).trans rfl)
theorem dk_108 {code : ByteArray} {pc : Nat} (h : DkAt code pc [108]) : decode code pc = .ok (.idiv, 1) := dk_of ((dk_bind (dk_u1 (h 0 _ rfl))).trans rfl)
theorem dk_109 {code : ByteArray} {pc : Nat} (h : DkAt code pc [109]) : decode code pc = .ok (.ldiv, 1) := dk_of ((dk_bind (dk_u1 (h 0 _ rfl))).trans rfl)
theorem dk_112 {code : ByteArray} {pc : Nat} (h : DkAt code pc [112]) : decode code pc = .ok (.irem, 1) := dk_of ((dk_bind (dk_u1 (h 0 _ rfl))).trans rfl)
theorem dk_113 {code : ByteArray} {pc : Nat} (h : DkAt code pc [113]) : decode code pc = .ok (.lrem, 1) := dk_of ((dk_bind (dk_u1 (h 0 _ rfl))).trans rfl)
theorem dk_120 {code : ByteArray} {pc : Nat} (h : DkAt code pc [120]) : decode code pc = .ok (.ishl, 1) := dk_of ((dk_bind (dk_u1 (h 0 _ rfl))).trans rfl)
theorem dk_122 {code : ByteArray} {pc : Nat} (h : DkAt code pc [122]) : decode code pc = .ok (.ishr, 1) := dk_of ((dk_bind (dk_u1 (h 0 _ rfl))).trans rfl)
theorem dk_126 {code : ByteArray} {pc : Nat} (h : DkAt code pc [126]) : decode code pc = .ok (.iand, 1) := dk_of ((dk_bind (dk_u1 (h 0 _ rfl))).trans rfl)
theorem dk_128 {code : ByteArray} {pc : Nat} (h : DkAt code pc [128]) : decode code pc = .ok (.ior, 1) := dk_of ((dk_bind (dk_u1 (h 0 _ rfl))).trans rfl)
theorem dk_132 {code : ByteArray} {pc : Nat} (a b : UInt8) (h : DkAt code pc [132, a, b]) : decode code pc = .ok (.iinc a.toNat (Reader.signed 8 b.toNat), 3) := dk_of ((dk_bind (dk_u1 (h 0 _ rfl))).trans ((dk_bind (dk_u1 (h 1 _ rfl))).trans ((dk_bind (dk_map (dk_u1 (h 2 _ rfl)))).trans rfl)))
theorem dk_133 {code : ByteArray} {pc : Nat} (h : DkAt code pc [133]) : decode code pc = .ok (.i2l, 1) := dk_of ((dk_bind (dk_u1 (h 0 _ rfl))).trans rfl)
theorem dk_145 {code : ByteArray} {pc : Nat} (h : DkAt code pc [145]) : decode code pc = .ok (.i2b, 1) := dk_of ((dk_bind (dk_u1 (h 0 _ rfl))).trans rfl)
theorem dk_147 {code : ByteArray} {pc : Nat} (h : DkAt code pc [147]) : decode code pc = .ok (.i2s, 1) := dk_of ((dk_bind (dk_u1 (h 0 _ rfl))).trans rfl)
theorem dk_148 {code : ByteArray} {pc : Nat} (h : DkAt code pc [148]) : decode code pc = .ok (.lcmp, 1) := dk_of ((dk_bind (dk_u1 (h 0 _ rfl))).trans rfl)
theorem dk_153 {code : ByteArray} {pc : Nat} (a b : UInt8) (h : DkAt code pc [153, a, b]) : decode code pc = .ok (.ifCond .eq (Reader.signed 16 (a.toNat * 256 + b.toNat)), 3) := dk_of ((dk_bind (dk_u1 (h 0 _ rfl))).trans ((dk_bind (dk_map (dk_u2 (h 1 _ rfl) (h 2 _ rfl)))).trans rfl))
theorem dk_154 {code : ByteArray} {pc : Nat} (a b : UInt8) (h : DkAt code pc [154, a, b]) : decode code pc = .ok (.ifCond .ne (Reader.signed 16 (a.toNat * 256 + b.toNat)), 3) := dk_of ((dk_bind (dk_u1 (h 0 _ rfl))).trans ((dk_bind (dk_map (dk_u2 (h 1 _ rfl) (h 2 _ rfl)))).trans rfl))
theorem dk_155 {code : ByteArray} {pc : Nat} (a b : UInt8) (h : DkAt code pc [155, a, b]) : decode code pc = .ok (.ifCond .lt (Reader.signed 16 (a.toNat * 256 + b.toNat)), 3) := dk_of ((dk_bind (dk_u1 (h 0 _ rfl))).trans ((dk_bind (dk_map (dk_u2 (h 1 _ rfl) (h 2 _ rfl)))).trans rfl))
theorem dk_156 {code : ByteArray} {pc : Nat} (a b : UInt8) (h : DkAt code pc [156, a, b]) : decode code pc = .ok (.ifCond .ge (Reader.signed 16 (a.toNat * 256 + b.toNat)), 3) := dk_of ((dk_bind (dk_u1 (h 0 _ rfl))).trans ((dk_bind (dk_map (dk_u2 (h 1 _ rfl) (h 2 _ rfl)))).trans rfl))
theorem dk_157 {code : ByteArray} {pc : Nat} (a b : UInt8) (h : DkAt code pc [157, a, b]) : decode code pc = .ok (.ifCond .gt (Reader.signed 16 (a.toNat * 256 + b.toNat)), 3) := dk_of ((dk_bind (dk_u1 (h 0 _ rfl))).trans ((dk_bind (dk_map (dk_u2 (h 1 _ rfl) (h 2 _ rfl)))).trans rfl))
theorem dk_158 {code : ByteArray} {pc : Nat} (a b : UInt8) (h : DkAt code pc [158, a, b]) : decode code pc = .ok (.ifCond .le (Reader.signed 16 (a.toNat * 256 + b.toNat)), 3) := dk_of ((dk_bind (dk_u1 (h 0 _ rfl))).trans ((dk_bind (dk_map (dk_u2 (h 1 _ rfl) (h 2 _ rfl)))).trans rfl))
theorem dk_159 {code : ByteArray} {pc : Nat} (a b : UInt8) (h : DkAt code pc [159, a, b]) : decode code pc = .ok (.if_icmp .eq (Reader.signed 16 (a.toNat * 256 + b.toNat)), 3) := dk_of ((dk_bind (dk_u1 (h 0 _ rfl))).trans ((dk_bind (dk_map (dk_u2 (h 1 _ rfl) (h 2 _ rfl)))).trans rfl))
theorem dk_160 {code : ByteArray} {pc : Nat} (a b : UInt8) (h : DkAt code pc [160, a, b]) : decode code pc = .ok (.if_icmp .ne (Reader.signed 16 (a.toNat * 256 + b.toNat)), 3) := dk_of ((dk_bind (dk_u1 (h 0 _ rfl))).trans ((dk_bind (dk_map (dk_u2 (h 1 _ rfl) (h 2 _ rfl)))).trans rfl))
theorem dk_161 {code : ByteArray} {pc : Nat} (a b : UInt8) (h : DkAt code pc [161, a, b]) : decode code pc = .ok (.if_icmp .lt (Reader.signed 16 (a.toNat * 256 + b.toNat)), 3) := dk_of ((dk_bind (dk_u1 (h 0 _ rfl))).trans ((dk_bind (dk_map (dk_u2 (h 1 _ rfl) (h 2 _ rfl)))).trans rfl))
theorem dk_162 {code : ByteArray} {pc : Nat} (a b : UInt8) (h : DkAt code pc [162, a, b]) : decode code pc = .ok (.if_icmp .ge (Reader.signed 16 (a.toNat * 256 + b.toNat)), 3) := dk_of ((dk_bind (dk_u1 (h 0 _ rfl))).trans ((dk_bind (dk_map (dk_u2 (h 1 _ rfl) (h 2 _ rfl)))).trans rfl))
theorem dk_163 {code : ByteArray} {pc : Nat} (a b : UInt8) (h : DkAt code pc [163, a, b]) : decode code pc = .ok (.if_icmp .gt (Reader.signed 16 (a.toNat * 256 + b.toNat)), 3) := dk_of ((dk_bind (dk_u1 (h 0 _ rfl))).trans ((dk_bind (dk_map (dk_u2 (h 1 _ rfl) (h 2 _ rfl)))).trans rfl))
theorem dk_164 {code : ByteArray} {pc : Nat} (a b : UInt8) (h : DkAt code pc [164, a, b]) : decode code pc = .ok (.if_icmp .le (Reader.signed 16 (a.toNat * 256 + b.toNat)), 3) := dk_of ((dk_bind (dk_u1 (h 0 _ rfl))).trans ((dk_bind (dk_map (dk_u2 (h 1 _ rfl) (h 2 _ rfl)))).trans rfl))
theorem dk_165 {code : ByteArray} {pc : Nat} (a b : UInt8) (h : DkAt code pc [165, a, b]) : decode code pc = .ok (.if_acmp .eq (Reader.signed 16 (a.toNat * 256 + b.toNat)), 3) := dk_of ((dk_bind (dk_u1 (h 0 _ rfl))).trans ((dk_bind (dk_map (dk_u2 (h 1 _ rfl) (h 2 _ rfl)))).trans rfl))
theorem dk_166 {code : ByteArray} {pc : Nat} (a b : UInt8) (h : DkAt code pc [166, a, b]) : decode code pc = .ok (.if_acmp .ne (Reader.signed 16 (a.toNat * 256 + b.toNat)), 3) := dk_of ((dk_bind (dk_u1 (h 0 _ rfl))).trans ((dk_bind (dk_map (dk_u2 (h 1 _ rfl) (h 2 _ rfl)))).trans rfl))
theorem dk_167 {code : ByteArray} {pc : Nat} (a b : UInt8) (h : DkAt code pc [167, a, b]) : decode code pc = .ok (.goto (Reader.signed 16 (a.toNat * 256 + b.toNat)), 3) := dk_of ((dk_bind (dk_u1 (h 0 _ rfl))).trans ((dk_bind (dk_map (dk_u2 (h 1 _ rfl) (h 2 _ rfl)))).trans rfl))
theorem dk_172 {code : ByteArray} {pc : Nat} (h : DkAt code pc [172]) : decode code pc = .ok (.ireturn, 1) := dk_of ((dk_bind (dk_u1 (h 0 _ rfl))).trans rfl)
theorem dk_173 {code : ByteArray} {pc : Nat} (h : DkAt code pc [173]) : decode code pc = .ok (.lreturn, 1) := dk_of ((dk_bind (dk_u1 (h 0 _ rfl))).trans rfl)
theorem dk_176 {code : ByteArray} {pc : Nat} (h : DkAt code pc [176]) : decode code pc = .ok (.areturn, 1) := dk_of ((dk_bind (dk_u1 (h 0 _ rfl))).trans rfl)
theorem dk_177 {code : ByteArray} {pc : Nat} (h : DkAt code pc [177]) : decode code pc = .ok (.return_, 1) := dk_of ((dk_bind (dk_u1 (h 0 _ rfl))).trans rfl)
theorem dk_178 {code : ByteArray} {pc : Nat} (a b : UInt8) (h : DkAt code pc [178, a, b]) : decode code pc = .ok (.getstatic (a.toNat * 256 + b.toNat), 3) := dk_of ((dk_bind (dk_u1 (h 0 _ rfl))).trans ((dk_bind (dk_u2 (h 1 _ rfl) (h 2 _ rfl))).trans rfl))
theorem dk_180 {code : ByteArray} {pc : Nat} (a b : UInt8) (h : DkAt code pc [180, a, b]) : decode code pc = .ok (.getfield (a.toNat * 256 + b.toNat), 3) := dk_of ((dk_bind (dk_u1 (h 0 _ rfl))).trans ((dk_bind (dk_u2 (h 1 _ rfl) (h 2 _ rfl))).trans rfl))
theorem dk_181 {code : ByteArray} {pc : Nat} (a b : UInt8) (h : DkAt code pc [181, a, b]) : decode code pc = .ok (.putfield (a.toNat * 256 + b.toNat), 3) := dk_of ((dk_bind (dk_u1 (h 0 _ rfl))).trans ((dk_bind (dk_u2 (h 1 _ rfl) (h 2 _ rfl))).trans rfl))
theorem dk_182 {code : ByteArray} {pc : Nat} (a b : UInt8) (h : DkAt code pc [182, a, b]) : decode code pc = .ok (.invokevirtual (a.toNat * 256 + b.toNat), 3) := dk_of ((dk_bind (dk_u1 (h 0 _ rfl))).trans ((dk_bind (dk_u2 (h 1 _ rfl) (h 2 _ rfl))).trans rfl))
theorem dk_183 {code : ByteArray} {pc : Nat} (a b : UInt8) (h : DkAt code pc [183, a, b]) : decode code pc = .ok (.invokespecial (a.toNat * 256 + b.toNat), 3) := dk_of ((dk_bind (dk_u1 (h 0 _ rfl))).trans ((dk_bind (dk_u2 (h 1 _ rfl) (h 2 _ rfl))).trans rfl))
theorem dk_184 {code : ByteArray} {pc : Nat} (a b : UInt8) (h : DkAt code pc [184, a, b]) : decode code pc = .ok (.invokestatic (a.toNat * 256 + b.toNat), 3) := dk_of ((dk_bind (dk_u1 (h 0 _ rfl))).trans ((dk_bind (dk_u2 (h 1 _ rfl) (h 2 _ rfl))).trans rfl))
theorem dk_187 {code : ByteArray} {pc : Nat} (a b : UInt8) (h : DkAt code pc [187, a, b]) : decode code pc = .ok (.new (a.toNat * 256 + b.toNat), 3) := dk_of ((dk_bind (dk_u1 (h 0 _ rfl))).trans ((dk_bind (dk_u2 (h 1 _ rfl) (h 2 _ rfl))).trans rfl))
theorem dk_188_8 {code : ByteArray} {pc : Nat} (h : DkAt code pc [188, 8]) : decode code pc = .ok (.newarray .byte, 2) := dk_of ((dk_bind (dk_u1 (h 0 _ rfl))).trans ((dk_bind (dk_u1 (h 1 _ rfl))).trans rfl))
theorem dk_188_9 {code : ByteArray} {pc : Nat} (h : DkAt code pc [188, 9]) : decode code pc = .ok (.newarray .short, 2) := dk_of ((dk_bind (dk_u1 (h 0 _ rfl))).trans ((dk_bind (dk_u1 (h 1 _ rfl))).trans rfl))
theorem dk_188_10 {code : ByteArray} {pc : Nat} (h : DkAt code pc [188, 10]) : decode code pc = .ok (.newarray .int, 2) := dk_of ((dk_bind (dk_u1 (h 0 _ rfl))).trans ((dk_bind (dk_u1 (h 1 _ rfl))).trans rfl))
theorem dk_189 {code : ByteArray} {pc : Nat} (a b : UInt8) (h : DkAt code pc [189, a, b]) : decode code pc = .ok (.anewarray (a.toNat * 256 + b.toNat), 3) := dk_of ((dk_bind (dk_u1 (h 0 _ rfl))).trans ((dk_bind (dk_u2 (h 1 _ rfl) (h 2 _ rfl))).trans rfl))
theorem dk_190 {code : ByteArray} {pc : Nat} (h : DkAt code pc [190]) : decode code pc = .ok (.arraylength, 1) := dk_of ((dk_bind (dk_u1 (h 0 _ rfl))).trans rfl)
theorem dk_191 {code : ByteArray} {pc : Nat} (h : DkAt code pc [191]) : decode code pc = .ok (.athrow, 1) := dk_of ((dk_bind (dk_u1 (h 0 _ rfl))).trans rfl)
theorem dk_192 {code : ByteArray} {pc : Nat} (a b : UInt8) (h : DkAt code pc [192, a, b]) : decode code pc = .ok (.checkcast (a.toNat * 256 + b.toNat), 3) := dk_of ((dk_bind (dk_u1 (h 0 _ rfl))).trans ((dk_bind (dk_u2 (h 1 _ rfl) (h 2 _ rfl))).trans rfl))
theorem dk_193 {code : ByteArray} {pc : Nat} (a b : UInt8) (h : DkAt code pc [193, a, b]) : decode code pc = .ok (.instanceof (a.toNat * 256 + b.toNat), 3) := dk_of ((dk_bind (dk_u1 (h 0 _ rfl))).trans ((dk_bind (dk_u2 (h 1 _ rfl) (h 2 _ rfl))).trans rfl))
theorem dk_199 {code : ByteArray} {pc : Nat} (a b : UInt8) (h : DkAt code pc [199, a, b]) : decode code pc = .ok (.ifnonnull (Reader.signed 16 (a.toNat * 256 + b.toNat)), 3) := dk_of ((dk_bind (dk_u1 (h 0 _ rfl))).trans ((dk_bind (dk_map (dk_u2 (h 1 _ rfl) (h 2 _ rfl)))).trans rfl))

/-! java/util/AbstractCollection -/
set_option maxRecDepth 100000
def RJ0 : String := "java/util/AbstractCollection"
abbrev cJ0_init : ByteArray := prog_32_method_1_code
def yJ0_init : MethodName := ⟨RJ0, "<init>", "()V"⟩
theorem dJ0_init_0 : decode cJ0_init 0 = .ok (.aload_n 0, 1) := by decide +kernel
theorem dJ0_init_1 : decode cJ0_init 1 = .ok (.invokespecial 1, 3) := by decide +kernel
theorem dJ0_init_4 : decode cJ0_init 4 = .ok (.return_, 1) := by decide +kernel
theorem q51 : (Jvm.Cond.initialized "java/util/AbstractCollection") ∈ lw_all := lw_g (lw_at lw_m1 2 rfl) rfl
theorem q100 : (Jvm.Cond.instanceMethod ({ cls := "java/util/AbstractCollection", name := "<init>", desc := "()V" } : Jvm.MethodName)) ∈ lw_all := lw_g (lw_at lw_m1 51 rfl) rfl
theorem q101 : (Jvm.Cond.code ({ cls := "java/util/AbstractCollection", name := "<init>", desc := "()V" } : Jvm.MethodName) prog_32_method_1_code (1 : Nat) (Option.none : Option Jvm.ClassFile.FieldType)) ∈ lw_all := lw_g (lw_at lw_m1 52 rfl) rfl
theorem q102 : (Jvm.Cond.methodLink "java/util/AbstractCollection" (1 : Nat) ({ cls := "java/lang/Object", name := "<init>", desc := "()V" } : Jvm.MethodName)) ∈ lw_all := lw_g (lw_at lw_m1 53 rfl) rfl

/-! java/util/AbstractList -/
set_option maxRecDepth 100000
def RJ1 : String := "java/util/AbstractList"
abbrev cJ1_init : ByteArray := prog_33_method_1_code
def yJ1_init : MethodName := ⟨RJ1, "<init>", "()V"⟩
def dkwJ1_init_0 : List UInt8 := [42, 183, 0, 1, 42, 3, 181, 0, 7, 177]
abbrev dktJ1_init_0 : List UInt8 := dkwJ1_init_0 ++ []
theorem dksJ1_init_0 : cJ1_init.data.toList.drop 0 = dktJ1_init_0 := by decide +kernel
theorem dJ1_init_0 : decode cJ1_init 0 = .ok (.aload_n 0, 1) := dk_42 (dk_at dksJ1_init_0 0 rfl rfl)
theorem dJ1_init_1 : decode cJ1_init 1 = .ok (.invokespecial 1, 3) := dk_183 0 1 (dk_at dksJ1_init_0 1 rfl rfl)
theorem dJ1_init_4 : decode cJ1_init 4 = .ok (.aload_n 0, 1) := dk_42 (dk_at dksJ1_init_0 4 rfl rfl)
theorem dJ1_init_5 : decode cJ1_init 5 = .ok (.iconst 0, 1) := dk_3 (dk_at dksJ1_init_0 5 rfl rfl)
theorem dJ1_init_6 : decode cJ1_init 6 = .ok (.putfield 7, 3) := dk_181 0 7 (dk_at dksJ1_init_0 6 rfl rfl)
theorem dJ1_init_9 : decode cJ1_init 9 = .ok (.return_, 1) := dk_177 (dk_at dksJ1_init_0 9 rfl rfl)
theorem q52 : (Jvm.Cond.initialized "java/util/AbstractList") ∈ lw_all := lw_g (lw_at lw_m1 3 rfl) rfl
theorem q97 : (Jvm.Cond.instanceMethod ({ cls := "java/util/AbstractList", name := "<init>", desc := "()V" } : Jvm.MethodName)) ∈ lw_all := lw_g (lw_at lw_m1 48 rfl) rfl
theorem q98 : (Jvm.Cond.code ({ cls := "java/util/AbstractList", name := "<init>", desc := "()V" } : Jvm.MethodName) prog_33_method_1_code (1 : Nat) (Option.none : Option Jvm.ClassFile.FieldType)) ∈ lw_all := lw_g (lw_at lw_m1 49 rfl) rfl
theorem q99 : (Jvm.Cond.methodLink "java/util/AbstractList" (1 : Nat) ({ cls := "java/util/AbstractCollection", name := "<init>", desc := "()V" } : Jvm.MethodName)) ∈ lw_all := lw_g (lw_at lw_m1 50 rfl) rfl
theorem q107 : (Jvm.Cond.fieldLink "java/util/AbstractList" (7 : Nat) "java/util/AbstractList" "modCount" "I") ∈ lw_all := lw_g (lw_at lw_m1 58 rfl) rfl
theorem q115 : (Jvm.Cond.soleField "java/util/AbstractList" "modCount") ∈ lw_all := lw_g (lw_at lw_m1 66 rfl) rfl

/-! java/lang/NegativeArraySizeException -/
set_option maxRecDepth 100000
def RJ10 : String := "java/lang/NegativeArraySizeException"
def TJ10 : u_T := fun k => match k with
  | 0 => ("java/lang/Throwable", "backtrace", "Ljava/lang/Object;", false)
  | 1 => ("java/lang/Throwable", "detailMessage", "Ljava/lang/String;", false)
  | 2 => ("java/lang/Throwable", "cause", "Ljava/lang/Throwable;", false)
  | 3 => ("java/lang/Throwable", "stackTrace", "[Ljava/lang/StackTraceElement;", false)
  | 4 => ("java/lang/Throwable", "depth", "I", false)
  | _ => ("java/lang/Throwable", "suppressedExceptions", "Ljava/util/List;", false)
def tyJ10 : Nat → FieldType := fun k => match k with
  | 0 => .object "java/lang/Object"
  | 1 => .object "java/lang/String"
  | 2 => .object "java/lang/Throwable"
  | 3 => .array (.object "java/lang/StackTraceElement")
  | 4 => .int
  | _ => .object "java/util/List"
abbrev wsJ100 : List Cond := u_ws RJ10 TJ10 6
theorem nmJ10 : ∀ a, a < 6 → ∀ b, b < 6 → a ≠ b → (TJ10 a).2.1 ≠ (TJ10 b).2.1 := by decide +kernel
theorem tyJ10_ok : ∀ k, k < 6 → parseFieldDescriptor (TJ10 k).2.2.1 = some (tyJ10 k) := by decide +kernel
abbrev cJ10_init : ByteArray := prog_26_method_2_code
def yJ10_init : MethodName := ⟨RJ10, "<init>", "(Ljava/lang/String;)V"⟩
def dkwJ10_init_0 : List UInt8 := [42, 43, 183, 0, 7, 177]
abbrev dktJ10_init_0 : List UInt8 := dkwJ10_init_0 ++ []
theorem dksJ10_init_0 : cJ10_init.data.toList.drop 0 = dktJ10_init_0 := by decide +kernel
theorem dJ10_init_0 : decode cJ10_init 0 = .ok (.aload_n 0, 1) := dk_42 (dk_at dksJ10_init_0 0 rfl rfl)
theorem dJ10_init_1 : decode cJ10_init 1 = .ok (.aload_n 1, 1) := dk_43 (dk_at dksJ10_init_0 1 rfl rfl)
theorem dJ10_init_2 : decode cJ10_init 2 = .ok (.invokespecial 7, 3) := dk_183 0 7 (dk_at dksJ10_init_0 2 rfl rfl)
theorem dJ10_init_5 : decode cJ10_init 5 = .ok (.return_, 1) := dk_177 (dk_at dksJ10_init_0 5 rfl rfl)
theorem q65 : (Jvm.Cond.initialized "java/lang/NegativeArraySizeException") ∈ lw_all := lw_g (lw_at lw_m1 16 rfl) rfl
theorem q383 : (Jvm.Cond.selects "java/lang/NegativeArraySizeException" ({ cls := "java/lang/Object", name := "getClass", desc := "()Ljava/lang/Class;" } : Jvm.MethodName) ({ cls := "java/lang/Object", name := "getClass", desc := "()Ljava/lang/Class;" } : Jvm.MethodName)) ∈ lw_all := lw_g (lw_at lw_m2 94 rfl) rfl
theorem q550 : (Jvm.Cond.instantiable "java/lang/NegativeArraySizeException" (6 : Nat)) ∈ lw_all := lw_g (lw_at lw_m3 21 rfl) rfl
theorem q551 : (Jvm.Cond.instanceMethod ({ cls := "java/lang/NegativeArraySizeException", name := "<init>", desc := "(Ljava/lang/String;)V" } : Jvm.MethodName)) ∈ lw_all := lw_g (lw_at lw_m3 22 rfl) rfl
theorem q552 : (Jvm.Cond.code ({ cls := "java/lang/NegativeArraySizeException", name := "<init>", desc := "(Ljava/lang/String;)V" } : Jvm.MethodName) prog_26_method_2_code (2 : Nat) (Option.none : Option Jvm.ClassFile.FieldType)) ∈ lw_all := lw_g (lw_at lw_m3 23 rfl) rfl
theorem q553 : (Jvm.Cond.methodLink "java/lang/NegativeArraySizeException" (7 : Nat) ({ cls := "java/lang/RuntimeException", name := "<init>", desc := "(Ljava/lang/String;)V" } : Jvm.MethodName)) ∈ lw_all := lw_g (lw_at lw_m3 24 rfl) rfl
theorem q574 : (Jvm.Cond.selects "java/lang/NegativeArraySizeException" ({ cls := "java/lang/Throwable", name := "fillInStackTrace", desc := "()Ljava/lang/Throwable;" } : Jvm.MethodName) ({ cls := "java/lang/Throwable", name := "fillInStackTrace", desc := "()Ljava/lang/Throwable;" } : Jvm.MethodName)) ∈ lw_all := lw_g (lw_at lw_m3 45 rfl) rfl
theorem q600 : (Jvm.Cond.lays "java/lang/NegativeArraySizeException" "java/lang/Throwable" "backtrace" "Ljava/lang/Object;") ∈ lw_all := lw_g (lw_at lw_m3 71 rfl) rfl
theorem q602 : (Jvm.Cond.lays "java/lang/NegativeArraySizeException" "java/lang/Throwable" "detailMessage" "Ljava/lang/String;") ∈ lw_all := lw_g (lw_at lw_m3 73 rfl) rfl
theorem q604 : (Jvm.Cond.lays "java/lang/NegativeArraySizeException" "java/lang/Throwable" "cause" "Ljava/lang/Throwable;") ∈ lw_all := lw_g (lw_at lw_m3 75 rfl) rfl
theorem q606 : (Jvm.Cond.lays "java/lang/NegativeArraySizeException" "java/lang/Throwable" "stackTrace" "[Ljava/lang/StackTraceElement;") ∈ lw_all := lw_g (lw_at lw_m3 77 rfl) rfl
theorem q608 : (Jvm.Cond.lays "java/lang/NegativeArraySizeException" "java/lang/Throwable" "depth" "I") ∈ lw_all := lw_g (lw_at lw_m3 79 rfl) rfl
theorem q610 : (Jvm.Cond.lays "java/lang/NegativeArraySizeException" "java/lang/Throwable" "suppressedExceptions" "Ljava/util/List;") ∈ lw_all := lw_g (lw_at lw_m3 81 rfl) rfl
theorem q612 : (Jvm.Cond.superclass "java/lang/NegativeArraySizeException" "java/lang/RuntimeException") ∈ lw_all := lw_g (lw_at lw_m3 83 rfl) rfl
theorem q613 : (Jvm.Cond.castable "java/lang/NegativeArraySizeException" "java/lang/NegativeArraySizeException") ∈ lw_tbl := lw_at lw_m3 84 rfl
theorem q620 : (Jvm.Cond.selects "java/lang/NegativeArraySizeException" ({ cls := "java/lang/Throwable", name := "fillInStackTrace", desc := "(I)Ljava/lang/Throwable;" } : Jvm.MethodName) ({ cls := "java/lang/Throwable", name := "fillInStackTrace", desc := "(I)Ljava/lang/Throwable;" } : Jvm.MethodName)) ∈ lw_all := lw_g (lw_at lw_m3 91 rfl) rfl
theorem q1508 : (Jvm.Cond.castable "java/lang/NegativeArraySizeException" "java/lang/Object") ∈ lw_tbl := lw_at lw_m7 19 rfl
theorem in_J10 : ∀ w ∈ wsJ100, w ∈ lw_all := lw_in wsJ100 [600, 602, 604, 606, 608, 610] (by decide +kernel) (by decide +kernel)

/-! java/lang/IndexOutOfBoundsException -/
set_option maxRecDepth 100000
def RJ11 : String := "java/lang/IndexOutOfBoundsException"
def TJ11 : u_T := fun k => match k with
  | 0 => ("java/lang/Throwable", "cause", "Ljava/lang/Throwable;", false)
  | 1 => ("java/lang/Throwable", "stackTrace", "[Ljava/lang/StackTraceElement;", false)
  | 2 => ("java/lang/Throwable", "suppressedExceptions", "Ljava/util/List;", false)
  | 3 => ("java/lang/Throwable", "detailMessage", "Ljava/lang/String;", false)
  | 4 => ("java/lang/Throwable", "backtrace", "Ljava/lang/Object;", false)
  | _ => ("java/lang/Throwable", "depth", "I", false)
def tyJ11 : Nat → FieldType := fun k => match k with
  | 0 => .object "java/lang/Throwable"
  | 1 => .array (.object "java/lang/StackTraceElement")
  | 2 => .object "java/util/List"
  | 3 => .object "java/lang/String"
  | 4 => .object "java/lang/Object"
  | _ => .int
abbrev wsJ110 : List Cond := u_ws RJ11 TJ11 6
theorem nmJ11 : ∀ a, a < 6 → ∀ b, b < 6 → a ≠ b → (TJ11 a).2.1 ≠ (TJ11 b).2.1 := by decide +kernel
theorem tyJ11_ok : ∀ k, k < 6 → parseFieldDescriptor (TJ11 k).2.2.1 = some (tyJ11 k) := by decide +kernel
abbrev cJ11_init : ByteArray := prog_23_method_2_code
def yJ11_init : MethodName := ⟨RJ11, "<init>", "(Ljava/lang/String;)V"⟩
def dkwJ11_init_0 : List UInt8 := [42, 43, 183, 0, 7, 177]
abbrev dktJ11_init_0 : List UInt8 := dkwJ11_init_0 ++ []
theorem dksJ11_init_0 : cJ11_init.data.toList.drop 0 = dktJ11_init_0 := by decide +kernel
theorem dJ11_init_0 : decode cJ11_init 0 = .ok (.aload_n 0, 1) := dk_42 (dk_at dksJ11_init_0 0 rfl rfl)
theorem dJ11_init_1 : decode cJ11_init 1 = .ok (.aload_n 1, 1) := dk_43 (dk_at dksJ11_init_0 1 rfl rfl)
theorem dJ11_init_2 : decode cJ11_init 2 = .ok (.invokespecial 7, 3) := dk_183 0 7 (dk_at dksJ11_init_0 2 rfl rfl)
theorem dJ11_init_5 : decode cJ11_init 5 = .ok (.return_, 1) := dk_177 (dk_at dksJ11_init_0 5 rfl rfl)
theorem q66 : (Jvm.Cond.initialized "java/lang/IndexOutOfBoundsException") ∈ lw_all := lw_g (lw_at lw_m1 17 rfl) rfl
theorem q382 : (Jvm.Cond.selects "java/lang/IndexOutOfBoundsException" ({ cls := "java/lang/Object", name := "getClass", desc := "()Ljava/lang/Class;" } : Jvm.MethodName) ({ cls := "java/lang/Object", name := "getClass", desc := "()Ljava/lang/Class;" } : Jvm.MethodName)) ∈ lw_all := lw_g (lw_at lw_m2 93 rfl) rfl
theorem q573 : (Jvm.Cond.selects "java/lang/IndexOutOfBoundsException" ({ cls := "java/lang/Throwable", name := "fillInStackTrace", desc := "()Ljava/lang/Throwable;" } : Jvm.MethodName) ({ cls := "java/lang/Throwable", name := "fillInStackTrace", desc := "()Ljava/lang/Throwable;" } : Jvm.MethodName)) ∈ lw_all := lw_g (lw_at lw_m3 44 rfl) rfl
theorem q700 : (Jvm.Cond.instanceMethod ({ cls := "java/lang/IndexOutOfBoundsException", name := "<init>", desc := "(Ljava/lang/String;)V" } : Jvm.MethodName)) ∈ lw_all := lw_g (lw_at lw_m3 171 rfl) rfl
theorem q701 : (Jvm.Cond.code ({ cls := "java/lang/IndexOutOfBoundsException", name := "<init>", desc := "(Ljava/lang/String;)V" } : Jvm.MethodName) prog_23_method_2_code (2 : Nat) (Option.none : Option Jvm.ClassFile.FieldType)) ∈ lw_all := lw_g (lw_at lw_m3 172 rfl) rfl
theorem q702 : (Jvm.Cond.methodLink "java/lang/IndexOutOfBoundsException" (7 : Nat) ({ cls := "java/lang/RuntimeException", name := "<init>", desc := "(Ljava/lang/String;)V" } : Jvm.MethodName)) ∈ lw_all := lw_g (lw_at lw_m3 173 rfl) rfl
theorem q711 : (Jvm.Cond.declares ({ cls := "java/lang/IndexOutOfBoundsException", name := "<init>", desc := "()V" } : Jvm.MethodName)) ∈ lw_tbl := lw_at lw_m3 182 rfl
theorem q712 : (Jvm.Cond.declares ({ cls := "java/lang/IndexOutOfBoundsException", name := "<init>", desc := "(Ljava/lang/String;)V" } : Jvm.MethodName)) ∈ lw_tbl := lw_at lw_m3 183 rfl
theorem q835 : (Jvm.Cond.instantiable "java/lang/IndexOutOfBoundsException" (6 : Nat)) ∈ lw_all := lw_g (lw_at lw_m4 66 rfl) rfl
theorem q836 : (Jvm.Cond.castable "java/lang/IndexOutOfBoundsException" "java/lang/IndexOutOfBoundsException") ∈ lw_tbl := lw_at lw_m4 67 rfl
theorem q837 : (Jvm.Cond.selects "java/lang/IndexOutOfBoundsException" ({ cls := "java/lang/Throwable", name := "fillInStackTrace", desc := "(I)Ljava/lang/Throwable;" } : Jvm.MethodName) ({ cls := "java/lang/Throwable", name := "fillInStackTrace", desc := "(I)Ljava/lang/Throwable;" } : Jvm.MethodName)) ∈ lw_all := lw_g (lw_at lw_m4 68 rfl) rfl
theorem q838 : (Jvm.Cond.lays "java/lang/IndexOutOfBoundsException" "java/lang/Throwable" "cause" "Ljava/lang/Throwable;") ∈ lw_all := lw_g (lw_at lw_m4 69 rfl) rfl
theorem q839 : (Jvm.Cond.lays "java/lang/IndexOutOfBoundsException" "java/lang/Throwable" "stackTrace" "[Ljava/lang/StackTraceElement;") ∈ lw_all := lw_g (lw_at lw_m4 70 rfl) rfl
theorem q840 : (Jvm.Cond.lays "java/lang/IndexOutOfBoundsException" "java/lang/Throwable" "suppressedExceptions" "Ljava/util/List;") ∈ lw_all := lw_g (lw_at lw_m4 71 rfl) rfl
theorem q841 : (Jvm.Cond.lays "java/lang/IndexOutOfBoundsException" "java/lang/Throwable" "detailMessage" "Ljava/lang/String;") ∈ lw_all := lw_g (lw_at lw_m4 72 rfl) rfl
theorem q842 : (Jvm.Cond.lays "java/lang/IndexOutOfBoundsException" "java/lang/Throwable" "backtrace" "Ljava/lang/Object;") ∈ lw_all := lw_g (lw_at lw_m4 73 rfl) rfl
theorem q845 : (Jvm.Cond.lays "java/lang/IndexOutOfBoundsException" "java/lang/Throwable" "depth" "I") ∈ lw_all := lw_g (lw_at lw_m4 76 rfl) rfl
theorem q846 : (Jvm.Cond.superclass "java/lang/IndexOutOfBoundsException" "java/lang/RuntimeException") ∈ lw_all := lw_g (lw_at lw_m4 77 rfl) rfl
theorem q1510 : (Jvm.Cond.castable "java/lang/IndexOutOfBoundsException" "java/lang/Object") ∈ lw_tbl := lw_at lw_m7 21 rfl
theorem in_J11 : ∀ w ∈ wsJ110, w ∈ lw_all := lw_in wsJ110 [838, 839, 840, 841, 842, 845] (by decide +kernel) (by decide +kernel)

/-! java/lang/ArrayIndexOutOfBoundsException -/
set_option maxRecDepth 100000
def RJ12 : String := "java/lang/ArrayIndexOutOfBoundsException"
def TJ12 : u_T := fun k => match k with
  | 0 => ("java/lang/Throwable", "backtrace", "Ljava/lang/Object;", false)
  | 1 => ("java/lang/Throwable", "detailMessage", "Ljava/lang/String;", false)
  | 2 => ("java/lang/Throwable", "cause", "Ljava/lang/Throwable;", false)
  | 3 => ("java/lang/Throwable", "stackTrace", "[Ljava/lang/StackTraceElement;", false)
  | 4 => ("java/lang/Throwable", "depth", "I", false)
  | _ => ("java/lang/Throwable", "suppressedExceptions", "Ljava/util/List;", false)
def tyJ12 : Nat → FieldType := fun k => match k with
  | 0 => .object "java/lang/Object"
  | 1 => .object "java/lang/String"
  | 2 => .object "java/lang/Throwable"
  | 3 => .array (.object "java/lang/StackTraceElement")
  | 4 => .int
  | _ => .object "java/util/List"
abbrev wsJ120 : List Cond := u_ws RJ12 TJ12 6
theorem nmJ12 : ∀ a, a < 6 → ∀ b, b < 6 → a ≠ b → (TJ12 a).2.1 ≠ (TJ12 b).2.1 := by decide +kernel
theorem tyJ12_ok : ∀ k, k < 6 → parseFieldDescriptor (TJ12 k).2.2.1 = some (tyJ12 k) := by decide +kernel
abbrev cJ12_init : ByteArray := prog_18_method_2_code
def yJ12_init : MethodName := ⟨RJ12, "<init>", "(Ljava/lang/String;)V"⟩
def dkwJ12_init_0 : List UInt8 := [42, 43, 183, 0, 7, 177]
abbrev dktJ12_init_0 : List UInt8 := dkwJ12_init_0 ++ []
theorem dksJ12_init_0 : cJ12_init.data.toList.drop 0 = dktJ12_init_0 := by decide +kernel
theorem dJ12_init_0 : decode cJ12_init 0 = .ok (.aload_n 0, 1) := dk_42 (dk_at dksJ12_init_0 0 rfl rfl)
theorem dJ12_init_1 : decode cJ12_init 1 = .ok (.aload_n 1, 1) := dk_43 (dk_at dksJ12_init_0 1 rfl rfl)
theorem dJ12_init_2 : decode cJ12_init 2 = .ok (.invokespecial 7, 3) := dk_183 0 7 (dk_at dksJ12_init_0 2 rfl rfl)
theorem dJ12_init_5 : decode cJ12_init 5 = .ok (.return_, 1) := dk_177 (dk_at dksJ12_init_0 5 rfl rfl)
theorem q67 : (Jvm.Cond.initialized "java/lang/ArrayIndexOutOfBoundsException") ∈ lw_all := lw_g (lw_at lw_m1 18 rfl) rfl
theorem q379 : (Jvm.Cond.selects "java/lang/ArrayIndexOutOfBoundsException" ({ cls := "java/lang/Object", name := "getClass", desc := "()Ljava/lang/Class;" } : Jvm.MethodName) ({ cls := "java/lang/Object", name := "getClass", desc := "()Ljava/lang/Class;" } : Jvm.MethodName)) ∈ lw_all := lw_g (lw_at lw_m2 90 rfl) rfl
theorem q570 : (Jvm.Cond.selects "java/lang/ArrayIndexOutOfBoundsException" ({ cls := "java/lang/Throwable", name := "fillInStackTrace", desc := "()Ljava/lang/Throwable;" } : Jvm.MethodName) ({ cls := "java/lang/Throwable", name := "fillInStackTrace", desc := "()Ljava/lang/Throwable;" } : Jvm.MethodName)) ∈ lw_all := lw_g (lw_at lw_m3 41 rfl) rfl
theorem q696 : (Jvm.Cond.instantiable "java/lang/ArrayIndexOutOfBoundsException" (6 : Nat)) ∈ lw_all := lw_g (lw_at lw_m3 167 rfl) rfl
theorem q697 : (Jvm.Cond.instanceMethod ({ cls := "java/lang/ArrayIndexOutOfBoundsException", name := "<init>", desc := "(Ljava/lang/String;)V" } : Jvm.MethodName)) ∈ lw_all := lw_g (lw_at lw_m3 168 rfl) rfl
theorem q698 : (Jvm.Cond.code ({ cls := "java/lang/ArrayIndexOutOfBoundsException", name := "<init>", desc := "(Ljava/lang/String;)V" } : Jvm.MethodName) prog_18_method_2_code (2 : Nat) (Option.none : Option Jvm.ClassFile.FieldType)) ∈ lw_all := lw_g (lw_at lw_m3 169 rfl) rfl
theorem q699 : (Jvm.Cond.methodLink "java/lang/ArrayIndexOutOfBoundsException" (7 : Nat) ({ cls := "java/lang/IndexOutOfBoundsException", name := "<init>", desc := "(Ljava/lang/String;)V" } : Jvm.MethodName)) ∈ lw_all := lw_g (lw_at lw_m3 170 rfl) rfl
theorem q703 : (Jvm.Cond.lays "java/lang/ArrayIndexOutOfBoundsException" "java/lang/Throwable" "backtrace" "Ljava/lang/Object;") ∈ lw_all := lw_g (lw_at lw_m3 174 rfl) rfl
theorem q704 : (Jvm.Cond.lays "java/lang/ArrayIndexOutOfBoundsException" "java/lang/Throwable" "detailMessage" "Ljava/lang/String;") ∈ lw_all := lw_g (lw_at lw_m3 175 rfl) rfl
theorem q705 : (Jvm.Cond.lays "java/lang/ArrayIndexOutOfBoundsException" "java/lang/Throwable" "cause" "Ljava/lang/Throwable;") ∈ lw_all := lw_g (lw_at lw_m3 176 rfl) rfl
theorem q706 : (Jvm.Cond.lays "java/lang/ArrayIndexOutOfBoundsException" "java/lang/Throwable" "stackTrace" "[Ljava/lang/StackTraceElement;") ∈ lw_all := lw_g (lw_at lw_m3 177 rfl) rfl
theorem q707 : (Jvm.Cond.lays "java/lang/ArrayIndexOutOfBoundsException" "java/lang/Throwable" "depth" "I") ∈ lw_all := lw_g (lw_at lw_m3 178 rfl) rfl
theorem q708 : (Jvm.Cond.lays "java/lang/ArrayIndexOutOfBoundsException" "java/lang/Throwable" "suppressedExceptions" "Ljava/util/List;") ∈ lw_all := lw_g (lw_at lw_m3 179 rfl) rfl
theorem q709 : (Jvm.Cond.superclass "java/lang/ArrayIndexOutOfBoundsException" "java/lang/IndexOutOfBoundsException") ∈ lw_all := lw_g (lw_at lw_m3 180 rfl) rfl
theorem q710 : (Jvm.Cond.castable "java/lang/ArrayIndexOutOfBoundsException" "java/lang/ArrayIndexOutOfBoundsException") ∈ lw_tbl := lw_at lw_m3 181 rfl
theorem q713 : (Jvm.Cond.selects "java/lang/ArrayIndexOutOfBoundsException" ({ cls := "java/lang/Throwable", name := "fillInStackTrace", desc := "(I)Ljava/lang/Throwable;" } : Jvm.MethodName) ({ cls := "java/lang/Throwable", name := "fillInStackTrace", desc := "(I)Ljava/lang/Throwable;" } : Jvm.MethodName)) ∈ lw_all := lw_g (lw_at lw_m3 184 rfl) rfl
theorem q1496 : (Jvm.Cond.castable "java/lang/ArrayIndexOutOfBoundsException" "java/lang/IndexOutOfBoundsException") ∈ lw_tbl := lw_at lw_m7 7 rfl
theorem q1509 : (Jvm.Cond.castable "java/lang/ArrayIndexOutOfBoundsException" "java/lang/Object") ∈ lw_tbl := lw_at lw_m7 20 rfl
theorem in_J12 : ∀ w ∈ wsJ120, w ∈ lw_all := lw_in wsJ120 [703, 704, 705, 706, 707, 708] (by decide +kernel) (by decide +kernel)

/-! java/lang/Math -/
set_option maxRecDepth 100000
def RJ13 : String := "java/lang/Math"
abbrev cJ13_min : ByteArray := prog_25_method_69_code
def yJ13_min : MethodName := ⟨RJ13, "min", "(II)I"⟩
def dkwJ13_min_0 : List UInt8 := [26, 27, 163, 0, 7, 26, 167, 0, 4, 27, 172]
abbrev dktJ13_min_0 : List UInt8 := dkwJ13_min_0 ++ []
theorem dksJ13_min_0 : cJ13_min.data.toList.drop 0 = dktJ13_min_0 := by decide +kernel
theorem dJ13_min_0 : decode cJ13_min 0 = .ok (.iload_n 0, 1) := dk_26 (dk_at dksJ13_min_0 0 rfl rfl)
theorem dJ13_min_1 : decode cJ13_min 1 = .ok (.iload_n 1, 1) := dk_27 (dk_at dksJ13_min_0 1 rfl rfl)
theorem dJ13_min_2 : decode cJ13_min 2 = .ok (.if_icmp .gt 7, 3) := dk_163 0 7 (dk_at dksJ13_min_0 2 rfl rfl)
theorem dJ13_min_5 : decode cJ13_min 5 = .ok (.iload_n 0, 1) := dk_26 (dk_at dksJ13_min_0 5 rfl rfl)
theorem dJ13_min_6 : decode cJ13_min 6 = .ok (.goto 4, 3) := dk_167 0 4 (dk_at dksJ13_min_0 6 rfl rfl)
theorem dJ13_min_9 : decode cJ13_min 9 = .ok (.iload_n 1, 1) := dk_27 (dk_at dksJ13_min_0 9 rfl rfl)
theorem dJ13_min_10 : decode cJ13_min 10 = .ok (.ireturn, 1) := dk_172 (dk_at dksJ13_min_0 10 rfl rfl)
abbrev cJ13_max : ByteArray := prog_25_method_65_code
def yJ13_max : MethodName := ⟨RJ13, "max", "(II)I"⟩
def dkwJ13_max_0 : List UInt8 := [26, 27, 161, 0, 7, 26, 167, 0, 4, 27, 172]
abbrev dktJ13_max_0 : List UInt8 := dkwJ13_max_0 ++ []
theorem dksJ13_max_0 : cJ13_max.data.toList.drop 0 = dktJ13_max_0 := by decide +kernel
theorem dJ13_max_0 : decode cJ13_max 0 = .ok (.iload_n 0, 1) := dk_26 (dk_at dksJ13_max_0 0 rfl rfl)
theorem dJ13_max_1 : decode cJ13_max 1 = .ok (.iload_n 1, 1) := dk_27 (dk_at dksJ13_max_0 1 rfl rfl)
theorem dJ13_max_2 : decode cJ13_max 2 = .ok (.if_icmp .lt 7, 3) := dk_161 0 7 (dk_at dksJ13_max_0 2 rfl rfl)
theorem dJ13_max_5 : decode cJ13_max 5 = .ok (.iload_n 0, 1) := dk_26 (dk_at dksJ13_max_0 5 rfl rfl)
theorem dJ13_max_6 : decode cJ13_max 6 = .ok (.goto 4, 3) := dk_167 0 4 (dk_at dksJ13_max_0 6 rfl rfl)
theorem dJ13_max_9 : decode cJ13_max 9 = .ok (.iload_n 1, 1) := dk_27 (dk_at dksJ13_max_0 9 rfl rfl)
theorem dJ13_max_10 : decode cJ13_max 10 = .ok (.ireturn, 1) := dk_172 (dk_at dksJ13_max_0 10 rfl rfl)
theorem q68 : (Jvm.Cond.initialized "java/lang/Math") ∈ lw_all := lw_g (lw_at lw_m1 19 rfl) rfl
theorem q234 : (Jvm.Cond.static ({ cls := "java/lang/Math", name := "min", desc := "(II)I" } : Jvm.MethodName)) ∈ lw_all := lw_g (lw_at lw_m1 185 rfl) rfl
theorem q235 : (Jvm.Cond.code ({ cls := "java/lang/Math", name := "min", desc := "(II)I" } : Jvm.MethodName) prog_25_method_69_code (2 : Nat) (Option.some Jvm.ClassFile.FieldType.int)) ∈ lw_all := lw_g (lw_at lw_m1 186 rfl) rfl
theorem q355 : (Jvm.Cond.static ({ cls := "java/lang/Math", name := "max", desc := "(II)I" } : Jvm.MethodName)) ∈ lw_all := lw_g (lw_at lw_m2 66 rfl) rfl
theorem q356 : (Jvm.Cond.code ({ cls := "java/lang/Math", name := "max", desc := "(II)I" } : Jvm.MethodName) prog_25_method_65_code (2 : Nat) (Option.some Jvm.ClassFile.FieldType.int)) ∈ lw_all := lw_g (lw_at lw_m2 67 rfl) rfl

/-! java/util/Objects -/
set_option maxRecDepth 100000
def RJ14 : String := "java/util/Objects"
abbrev cJ14_checkIndex : ByteArray := prog_38_method_17_code
def yJ14_checkIndex : MethodName := ⟨RJ14, "checkIndex", "(II)I"⟩
def dkwJ14_checkIndex_0 : List UInt8 := [26, 27, 1, 184, 0, 105, 172]
abbrev dktJ14_checkIndex_0 : List UInt8 := dkwJ14_checkIndex_0 ++ []
theorem dksJ14_checkIndex_0 : cJ14_checkIndex.data.toList.drop 0 = dktJ14_checkIndex_0 := by decide +kernel
theorem dJ14_checkIndex_0 : decode cJ14_checkIndex 0 = .ok (.iload_n 0, 1) := dk_26 (dk_at dksJ14_checkIndex_0 0 rfl rfl)
theorem dJ14_checkIndex_1 : decode cJ14_checkIndex 1 = .ok (.iload_n 1, 1) := dk_27 (dk_at dksJ14_checkIndex_0 1 rfl rfl)
theorem dJ14_checkIndex_2 : decode cJ14_checkIndex 2 = .ok (.aconst_null, 1) := dk_1 (dk_at dksJ14_checkIndex_0 2 rfl rfl)
theorem dJ14_checkIndex_3 : decode cJ14_checkIndex 3 = .ok (.invokestatic 105, 3) := dk_184 0 105 (dk_at dksJ14_checkIndex_0 3 rfl rfl)
theorem dJ14_checkIndex_6 : decode cJ14_checkIndex 6 = .ok (.ireturn, 1) := dk_172 (dk_at dksJ14_checkIndex_0 6 rfl rfl)
theorem q69 : (Jvm.Cond.initialized "java/util/Objects") ∈ lw_all := lw_g (lw_at lw_m1 20 rfl) rfl
theorem q198 : (Jvm.Cond.static ({ cls := "java/util/Objects", name := "checkIndex", desc := "(II)I" } : Jvm.MethodName)) ∈ lw_all := lw_g (lw_at lw_m1 149 rfl) rfl
theorem q199 : (Jvm.Cond.code ({ cls := "java/util/Objects", name := "checkIndex", desc := "(II)I" } : Jvm.MethodName) prog_38_method_17_code (2 : Nat) (Option.some Jvm.ClassFile.FieldType.int)) ∈ lw_all := lw_g (lw_at lw_m1 150 rfl) rfl
theorem q200 : (Jvm.Cond.methodLink "java/util/Objects" (105 : Nat) ({ cls := "jdk/internal/util/Preconditions", name := "checkIndex", desc := "(IILjava/util/function/BiFunction;)I" } : Jvm.MethodName)) ∈ lw_all := lw_g (lw_at lw_m1 151 rfl) rfl

/-! jdk/internal/util/Preconditions -/
set_option maxRecDepth 100000
def RJ15 : String := "jdk/internal/util/Preconditions"
abbrev cJ15_checkIndex : ByteArray := prog_42_method_11_code
def yJ15_checkIndex : MethodName := ⟨RJ15, "checkIndex", "(IILjava/util/function/BiFunction;)I"⟩
def dkwJ15_checkIndex_0 : List UInt8 := [26, 155, 0, 8, 26, 27, 161, 0, 10, 44, 26, 27, 184, 0, 95, 191, 26, 172]
abbrev dktJ15_checkIndex_0 : List UInt8 := dkwJ15_checkIndex_0 ++ []
theorem dksJ15_checkIndex_0 : cJ15_checkIndex.data.toList.drop 0 = dktJ15_checkIndex_0 := by decide +kernel
theorem dJ15_checkIndex_0 : decode cJ15_checkIndex 0 = .ok (.iload_n 0, 1) := dk_26 (dk_at dksJ15_checkIndex_0 0 rfl rfl)
theorem dJ15_checkIndex_1 : decode cJ15_checkIndex 1 = .ok (.ifCond .lt 8, 3) := dk_155 0 8 (dk_at dksJ15_checkIndex_0 1 rfl rfl)
theorem dJ15_checkIndex_4 : decode cJ15_checkIndex 4 = .ok (.iload_n 0, 1) := dk_26 (dk_at dksJ15_checkIndex_0 4 rfl rfl)
theorem dJ15_checkIndex_5 : decode cJ15_checkIndex 5 = .ok (.iload_n 1, 1) := dk_27 (dk_at dksJ15_checkIndex_0 5 rfl rfl)
theorem dJ15_checkIndex_6 : decode cJ15_checkIndex 6 = .ok (.if_icmp .lt 10, 3) := dk_161 0 10 (dk_at dksJ15_checkIndex_0 6 rfl rfl)
theorem dJ15_checkIndex_9 : decode cJ15_checkIndex 9 = .ok (.aload_n 2, 1) := dk_44 (dk_at dksJ15_checkIndex_0 9 rfl rfl)
theorem dJ15_checkIndex_10 : decode cJ15_checkIndex 10 = .ok (.iload_n 0, 1) := dk_26 (dk_at dksJ15_checkIndex_0 10 rfl rfl)
theorem dJ15_checkIndex_11 : decode cJ15_checkIndex 11 = .ok (.iload_n 1, 1) := dk_27 (dk_at dksJ15_checkIndex_0 11 rfl rfl)
theorem dJ15_checkIndex_12 : decode cJ15_checkIndex 12 = .ok (.invokestatic 95, 3) := dk_184 0 95 (dk_at dksJ15_checkIndex_0 12 rfl rfl)
theorem dJ15_checkIndex_15 : decode cJ15_checkIndex 15 = .ok (.athrow, 1) := dk_191 (dk_at dksJ15_checkIndex_0 15 rfl rfl)
theorem dJ15_checkIndex_16 : decode cJ15_checkIndex 16 = .ok (.iload_n 0, 1) := dk_26 (dk_at dksJ15_checkIndex_0 16 rfl rfl)
theorem dJ15_checkIndex_17 : decode cJ15_checkIndex 17 = .ok (.ireturn, 1) := dk_172 (dk_at dksJ15_checkIndex_0 17 rfl rfl)
theorem q70 : (Jvm.Cond.initialized "jdk/internal/util/Preconditions") ∈ lw_all := lw_g (lw_at lw_m1 21 rfl) rfl
theorem q201 : (Jvm.Cond.static ({ cls := "jdk/internal/util/Preconditions", name := "checkIndex", desc := "(IILjava/util/function/BiFunction;)I" } : Jvm.MethodName)) ∈ lw_all := lw_g (lw_at lw_m1 152 rfl) rfl
theorem q202 : (Jvm.Cond.code ({ cls := "jdk/internal/util/Preconditions", name := "checkIndex", desc := "(IILjava/util/function/BiFunction;)I" } : Jvm.MethodName) prog_42_method_11_code (3 : Nat) (Option.some Jvm.ClassFile.FieldType.int)) ∈ lw_all := lw_g (lw_at lw_m1 153 rfl) rfl

/-! jdk/internal/util/ArraysSupport -/
set_option maxRecDepth 100000
def RJ16 : String := "jdk/internal/util/ArraysSupport"
abbrev cJ16_newLength : ByteArray := prog_41_method_27_code
def yJ16_newLength : MethodName := ⟨RJ16, "newLength", "(III)I"⟩
def dkwJ16_newLength_1 : List UInt8 := [184, 0, 201, 172]
abbrev dktJ16_newLength_1 : List UInt8 := dkwJ16_newLength_1 ++ []
def dkwJ16_newLength_0 : List UInt8 := [26, 27, 28, 184, 0, 194, 96, 62, 3, 29, 162, 0, 11, 29, 18, 200, 163, 0, 5, 29, 172, 26, 27]
abbrev dktJ16_newLength_0 : List UInt8 := dkwJ16_newLength_0 ++ dktJ16_newLength_1
theorem dksJ16_newLength_0 : cJ16_newLength.data.toList.drop 0 = dktJ16_newLength_0 := by decide +kernel
theorem dksJ16_newLength_1 : cJ16_newLength.data.toList.drop 23 = dktJ16_newLength_1 := dk_seg dksJ16_newLength_0 23 rfl rfl
theorem dJ16_newLength_0 : decode cJ16_newLength 0 = .ok (.iload_n 0, 1) := dk_26 (dk_at dksJ16_newLength_0 0 rfl rfl)
theorem dJ16_newLength_1 : decode cJ16_newLength 1 = .ok (.iload_n 1, 1) := dk_27 (dk_at dksJ16_newLength_0 1 rfl rfl)
theorem dJ16_newLength_2 : decode cJ16_newLength 2 = .ok (.iload_n 2, 1) := dk_28 (dk_at dksJ16_newLength_0 2 rfl rfl)
theorem dJ16_newLength_3 : decode cJ16_newLength 3 = .ok (.invokestatic 194, 3) := dk_184 0 194 (dk_at dksJ16_newLength_0 3 rfl rfl)
theorem dJ16_newLength_6 : decode cJ16_newLength 6 = .ok (.iadd, 1) := dk_96 (dk_at dksJ16_newLength_0 6 rfl rfl)
theorem dJ16_newLength_7 : decode cJ16_newLength 7 = .ok (.istore_n 3, 1) := dk_62 (dk_at dksJ16_newLength_0 7 rfl rfl)
theorem dJ16_newLength_8 : decode cJ16_newLength 8 = .ok (.iconst 0, 1) := dk_3 (dk_at dksJ16_newLength_0 8 rfl rfl)
theorem dJ16_newLength_9 : decode cJ16_newLength 9 = .ok (.iload_n 3, 1) := dk_29 (dk_at dksJ16_newLength_0 9 rfl rfl)
theorem dJ16_newLength_10 : decode cJ16_newLength 10 = .ok (.if_icmp .ge 11, 3) := dk_162 0 11 (dk_at dksJ16_newLength_0 10 rfl rfl)
theorem dJ16_newLength_13 : decode cJ16_newLength 13 = .ok (.iload_n 3, 1) := dk_29 (dk_at dksJ16_newLength_0 13 rfl rfl)
theorem dJ16_newLength_14 : decode cJ16_newLength 14 = .ok (.ldc 200, 2) := dk_18 200 (dk_at dksJ16_newLength_0 14 rfl rfl)
theorem dJ16_newLength_16 : decode cJ16_newLength 16 = .ok (.if_icmp .gt 5, 3) := dk_163 0 5 (dk_at dksJ16_newLength_0 16 rfl rfl)
theorem dJ16_newLength_19 : decode cJ16_newLength 19 = .ok (.iload_n 3, 1) := dk_29 (dk_at dksJ16_newLength_0 19 rfl rfl)
theorem dJ16_newLength_20 : decode cJ16_newLength 20 = .ok (.ireturn, 1) := dk_172 (dk_at dksJ16_newLength_0 20 rfl rfl)
theorem dJ16_newLength_21 : decode cJ16_newLength 21 = .ok (.iload_n 0, 1) := dk_26 (dk_at dksJ16_newLength_0 21 rfl rfl)
theorem dJ16_newLength_22 : decode cJ16_newLength 22 = .ok (.iload_n 1, 1) := dk_27 (dk_at dksJ16_newLength_0 22 rfl rfl)
theorem dJ16_newLength_23 : decode cJ16_newLength 23 = .ok (.invokestatic 201, 3) := dk_184 0 201 (dk_at dksJ16_newLength_1 0 rfl rfl)
theorem dJ16_newLength_26 : decode cJ16_newLength 26 = .ok (.ireturn, 1) := dk_172 (dk_at dksJ16_newLength_1 3 rfl rfl)
abbrev cJ16_hugeLength : ByteArray := prog_41_method_28_code
def yJ16_hugeLength : MethodName := ⟨RJ16, "hugeLength", "(II)I"⟩
def dkwJ16_hugeLength_2 : List UInt8 := [191, 28, 18, 200, 163, 0, 6, 18, 200, 172, 28, 172]
abbrev dktJ16_hugeLength_2 : List UInt8 := dkwJ16_hugeLength_2 ++ []
def dkwJ16_hugeLength_1 : List UInt8 := [26, 182, 0, 98, 18, 208, 182, 0, 94, 27, 182, 0, 98, 18, 210, 182, 0, 94, 182, 0, 101, 183, 0, 212]
abbrev dktJ16_hugeLength_1 : List UInt8 := dkwJ16_hugeLength_1 ++ dktJ16_hugeLength_2
def dkwJ16_hugeLength_0 : List UInt8 := [26, 27, 96, 61, 28, 156, 0, 44, 187, 0, 204, 89, 187, 0, 89, 89, 183, 0, 91, 18, 206, 182, 0, 94]
abbrev dktJ16_hugeLength_0 : List UInt8 := dkwJ16_hugeLength_0 ++ dktJ16_hugeLength_1
theorem dksJ16_hugeLength_0 : cJ16_hugeLength.data.toList.drop 0 = dktJ16_hugeLength_0 := by decide +kernel
theorem dksJ16_hugeLength_1 : cJ16_hugeLength.data.toList.drop 24 = dktJ16_hugeLength_1 := dk_seg dksJ16_hugeLength_0 24 rfl rfl
theorem dksJ16_hugeLength_2 : cJ16_hugeLength.data.toList.drop 48 = dktJ16_hugeLength_2 := dk_seg dksJ16_hugeLength_1 24 rfl rfl
theorem dJ16_hugeLength_0 : decode cJ16_hugeLength 0 = .ok (.iload_n 0, 1) := dk_26 (dk_at dksJ16_hugeLength_0 0 rfl rfl)
theorem dJ16_hugeLength_1 : decode cJ16_hugeLength 1 = .ok (.iload_n 1, 1) := dk_27 (dk_at dksJ16_hugeLength_0 1 rfl rfl)
theorem dJ16_hugeLength_2 : decode cJ16_hugeLength 2 = .ok (.iadd, 1) := dk_96 (dk_at dksJ16_hugeLength_0 2 rfl rfl)
theorem dJ16_hugeLength_3 : decode cJ16_hugeLength 3 = .ok (.istore_n 2, 1) := dk_61 (dk_at dksJ16_hugeLength_0 3 rfl rfl)
theorem dJ16_hugeLength_4 : decode cJ16_hugeLength 4 = .ok (.iload_n 2, 1) := dk_28 (dk_at dksJ16_hugeLength_0 4 rfl rfl)
theorem dJ16_hugeLength_5 : decode cJ16_hugeLength 5 = .ok (.ifCond .ge 44, 3) := dk_156 0 44 (dk_at dksJ16_hugeLength_0 5 rfl rfl)
theorem dJ16_hugeLength_8 : decode cJ16_hugeLength 8 = .ok (.new 204, 3) := dk_187 0 204 (dk_at dksJ16_hugeLength_0 8 rfl rfl)
theorem dJ16_hugeLength_11 : decode cJ16_hugeLength 11 = .ok (.dup, 1) := dk_89 (dk_at dksJ16_hugeLength_0 11 rfl rfl)
theorem dJ16_hugeLength_12 : decode cJ16_hugeLength 12 = .ok (.new 89, 3) := dk_187 0 89 (dk_at dksJ16_hugeLength_0 12 rfl rfl)
theorem dJ16_hugeLength_15 : decode cJ16_hugeLength 15 = .ok (.dup, 1) := dk_89 (dk_at dksJ16_hugeLength_0 15 rfl rfl)
theorem dJ16_hugeLength_16 : decode cJ16_hugeLength 16 = .ok (.invokespecial 91, 3) := dk_183 0 91 (dk_at dksJ16_hugeLength_0 16 rfl rfl)
theorem dJ16_hugeLength_19 : decode cJ16_hugeLength 19 = .ok (.ldc 206, 2) := dk_18 206 (dk_at dksJ16_hugeLength_0 19 rfl rfl)
theorem dJ16_hugeLength_21 : decode cJ16_hugeLength 21 = .ok (.invokevirtual 94, 3) := dk_182 0 94 (dk_at dksJ16_hugeLength_0 21 rfl rfl)
theorem dJ16_hugeLength_24 : decode cJ16_hugeLength 24 = .ok (.iload_n 0, 1) := dk_26 (dk_at dksJ16_hugeLength_1 0 rfl rfl)
theorem dJ16_hugeLength_25 : decode cJ16_hugeLength 25 = .ok (.invokevirtual 98, 3) := dk_182 0 98 (dk_at dksJ16_hugeLength_1 1 rfl rfl)
theorem dJ16_hugeLength_28 : decode cJ16_hugeLength 28 = .ok (.ldc 208, 2) := dk_18 208 (dk_at dksJ16_hugeLength_1 4 rfl rfl)
theorem dJ16_hugeLength_30 : decode cJ16_hugeLength 30 = .ok (.invokevirtual 94, 3) := dk_182 0 94 (dk_at dksJ16_hugeLength_1 6 rfl rfl)
theorem dJ16_hugeLength_33 : decode cJ16_hugeLength 33 = .ok (.iload_n 1, 1) := dk_27 (dk_at dksJ16_hugeLength_1 9 rfl rfl)
theorem dJ16_hugeLength_34 : decode cJ16_hugeLength 34 = .ok (.invokevirtual 98, 3) := dk_182 0 98 (dk_at dksJ16_hugeLength_1 10 rfl rfl)
theorem dJ16_hugeLength_37 : decode cJ16_hugeLength 37 = .ok (.ldc 210, 2) := dk_18 210 (dk_at dksJ16_hugeLength_1 13 rfl rfl)
theorem dJ16_hugeLength_39 : decode cJ16_hugeLength 39 = .ok (.invokevirtual 94, 3) := dk_182 0 94 (dk_at dksJ16_hugeLength_1 15 rfl rfl)
theorem dJ16_hugeLength_42 : decode cJ16_hugeLength 42 = .ok (.invokevirtual 101, 3) := dk_182 0 101 (dk_at dksJ16_hugeLength_1 18 rfl rfl)
theorem dJ16_hugeLength_45 : decode cJ16_hugeLength 45 = .ok (.invokespecial 212, 3) := dk_183 0 212 (dk_at dksJ16_hugeLength_1 21 rfl rfl)
theorem dJ16_hugeLength_48 : decode cJ16_hugeLength 48 = .ok (.athrow, 1) := dk_191 (dk_at dksJ16_hugeLength_2 0 rfl rfl)
theorem dJ16_hugeLength_49 : decode cJ16_hugeLength 49 = .ok (.iload_n 2, 1) := dk_28 (dk_at dksJ16_hugeLength_2 1 rfl rfl)
theorem dJ16_hugeLength_50 : decode cJ16_hugeLength 50 = .ok (.ldc 200, 2) := dk_18 200 (dk_at dksJ16_hugeLength_2 2 rfl rfl)
theorem dJ16_hugeLength_52 : decode cJ16_hugeLength 52 = .ok (.if_icmp .gt 6, 3) := dk_163 0 6 (dk_at dksJ16_hugeLength_2 4 rfl rfl)
theorem dJ16_hugeLength_55 : decode cJ16_hugeLength 55 = .ok (.ldc 200, 2) := dk_18 200 (dk_at dksJ16_hugeLength_2 7 rfl rfl)
theorem dJ16_hugeLength_57 : decode cJ16_hugeLength 57 = .ok (.ireturn, 1) := dk_172 (dk_at dksJ16_hugeLength_2 9 rfl rfl)
theorem dJ16_hugeLength_58 : decode cJ16_hugeLength 58 = .ok (.iload_n 2, 1) := dk_28 (dk_at dksJ16_hugeLength_2 10 rfl rfl)
theorem dJ16_hugeLength_59 : decode cJ16_hugeLength 59 = .ok (.ireturn, 1) := dk_172 (dk_at dksJ16_hugeLength_2 11 rfl rfl)
theorem q72 : (Jvm.Cond.initialized "jdk/internal/util/ArraysSupport") ∈ lw_all := lw_g (lw_at lw_m1 23 rfl) rfl
theorem q352 : (Jvm.Cond.static ({ cls := "jdk/internal/util/ArraysSupport", name := "newLength", desc := "(III)I" } : Jvm.MethodName)) ∈ lw_all := lw_g (lw_at lw_m2 63 rfl) rfl
theorem q353 : (Jvm.Cond.code ({ cls := "jdk/internal/util/ArraysSupport", name := "newLength", desc := "(III)I" } : Jvm.MethodName) prog_41_method_27_code (4 : Nat) (Option.some Jvm.ClassFile.FieldType.int)) ∈ lw_all := lw_g (lw_at lw_m2 64 rfl) rfl
theorem q354 : (Jvm.Cond.methodLink "jdk/internal/util/ArraysSupport" (194 : Nat) ({ cls := "java/lang/Math", name := "max", desc := "(II)I" } : Jvm.MethodName)) ∈ lw_all := lw_g (lw_at lw_m2 65 rfl) rfl
theorem q357 : (Jvm.Cond.constant "jdk/internal/util/ArraysSupport" (200 : Nat) (2147483639 : Int32)) ∈ lw_all := lw_g (lw_at lw_m2 68 rfl) rfl
theorem q358 : (Jvm.Cond.methodLink "jdk/internal/util/ArraysSupport" (201 : Nat) ({ cls := "jdk/internal/util/ArraysSupport", name := "hugeLength", desc := "(II)I" } : Jvm.MethodName)) ∈ lw_all := lw_g (lw_at lw_m2 69 rfl) rfl
theorem q359 : (Jvm.Cond.static ({ cls := "jdk/internal/util/ArraysSupport", name := "hugeLength", desc := "(II)I" } : Jvm.MethodName)) ∈ lw_all := lw_g (lw_at lw_m2 70 rfl) rfl
theorem q360 : (Jvm.Cond.code ({ cls := "jdk/internal/util/ArraysSupport", name := "hugeLength", desc := "(II)I" } : Jvm.MethodName) prog_41_method_28_code (3 : Nat) (Option.some Jvm.ClassFile.FieldType.int)) ∈ lw_all := lw_g (lw_at lw_m2 71 rfl) rfl

/-! java/util/Arrays -/
set_option maxRecDepth 100000
def RJ17 : String := "java/util/Arrays"
abbrev cJ17_copyOf : ByteArray := prog_35_method_119_code
def yJ17_copyOf : MethodName := ⟨RJ17, "copyOf", "([Ljava/lang/Object;I)[Ljava/lang/Object;"⟩
def dkwJ17_copyOf_0 : List UInt8 := [42, 27, 42, 182, 0, 86, 184, 1, 44, 176]
abbrev dktJ17_copyOf_0 : List UInt8 := dkwJ17_copyOf_0 ++ []
theorem dksJ17_copyOf_0 : cJ17_copyOf.data.toList.drop 0 = dktJ17_copyOf_0 := by decide +kernel
theorem dJ17_copyOf_0 : decode cJ17_copyOf 0 = .ok (.aload_n 0, 1) := dk_42 (dk_at dksJ17_copyOf_0 0 rfl rfl)
theorem dJ17_copyOf_1 : decode cJ17_copyOf 1 = .ok (.iload_n 1, 1) := dk_27 (dk_at dksJ17_copyOf_0 1 rfl rfl)
theorem dJ17_copyOf_2 : decode cJ17_copyOf 2 = .ok (.aload_n 0, 1) := dk_42 (dk_at dksJ17_copyOf_0 2 rfl rfl)
theorem dJ17_copyOf_3 : decode cJ17_copyOf 3 = .ok (.invokevirtual 86, 3) := dk_182 0 86 (dk_at dksJ17_copyOf_0 3 rfl rfl)
theorem dJ17_copyOf_6 : decode cJ17_copyOf 6 = .ok (.invokestatic 300, 3) := dk_184 1 44 (dk_at dksJ17_copyOf_0 6 rfl rfl)
theorem dJ17_copyOf_9 : decode cJ17_copyOf 9 = .ok (.areturn, 1) := dk_176 (dk_at dksJ17_copyOf_0 9 rfl rfl)
abbrev cJ17_copyOf_2 : ByteArray := prog_35_method_120_code
def yJ17_copyOf_2 : MethodName := ⟨RJ17, "copyOf", "([Ljava/lang/Object;ILjava/lang/Class;)[Ljava/lang/Object;"⟩
def dkwJ17_copyOf_2_1 : List UInt8 := [78, 42, 3, 45, 3, 42, 190, 27, 184, 1, 48, 184, 0, 150, 45, 176]
abbrev dktJ17_copyOf_2_1 : List UInt8 := dkwJ17_copyOf_2_1 ++ []
def dkwJ17_copyOf_2_0 : List UInt8 := [44, 18, 110, 166, 0, 10, 27, 189, 0, 2, 167, 0, 14, 44, 182, 0, 90, 27, 184, 0, 95, 192, 0, 110]
abbrev dktJ17_copyOf_2_0 : List UInt8 := dkwJ17_copyOf_2_0 ++ dktJ17_copyOf_2_1
theorem dksJ17_copyOf_2_0 : cJ17_copyOf_2.data.toList.drop 0 = dktJ17_copyOf_2_0 := by decide +kernel
theorem dksJ17_copyOf_2_1 : cJ17_copyOf_2.data.toList.drop 24 = dktJ17_copyOf_2_1 := dk_seg dksJ17_copyOf_2_0 24 rfl rfl
theorem dJ17_copyOf_2_0 : decode cJ17_copyOf_2 0 = .ok (.aload_n 2, 1) := dk_44 (dk_at dksJ17_copyOf_2_0 0 rfl rfl)
theorem dJ17_copyOf_2_1 : decode cJ17_copyOf_2 1 = .ok (.ldc 110, 2) := dk_18 110 (dk_at dksJ17_copyOf_2_0 1 rfl rfl)
theorem dJ17_copyOf_2_3 : decode cJ17_copyOf_2 3 = .ok (.if_acmp .ne 10, 3) := dk_166 0 10 (dk_at dksJ17_copyOf_2_0 3 rfl rfl)
theorem dJ17_copyOf_2_6 : decode cJ17_copyOf_2 6 = .ok (.iload_n 1, 1) := dk_27 (dk_at dksJ17_copyOf_2_0 6 rfl rfl)
theorem dJ17_copyOf_2_7 : decode cJ17_copyOf_2 7 = .ok (.anewarray 2, 3) := dk_189 0 2 (dk_at dksJ17_copyOf_2_0 7 rfl rfl)
theorem dJ17_copyOf_2_10 : decode cJ17_copyOf_2 10 = .ok (.goto 14, 3) := dk_167 0 14 (dk_at dksJ17_copyOf_2_0 10 rfl rfl)
theorem dJ17_copyOf_2_13 : decode cJ17_copyOf_2 13 = .ok (.aload_n 2, 1) := dk_44 (dk_at dksJ17_copyOf_2_0 13 rfl rfl)
theorem dJ17_copyOf_2_14 : decode cJ17_copyOf_2 14 = .ok (.invokevirtual 90, 3) := dk_182 0 90 (dk_at dksJ17_copyOf_2_0 14 rfl rfl)
theorem dJ17_copyOf_2_17 : decode cJ17_copyOf_2 17 = .ok (.iload_n 1, 1) := dk_27 (dk_at dksJ17_copyOf_2_0 17 rfl rfl)
theorem dJ17_copyOf_2_18 : decode cJ17_copyOf_2 18 = .ok (.invokestatic 95, 3) := dk_184 0 95 (dk_at dksJ17_copyOf_2_0 18 rfl rfl)
theorem dJ17_copyOf_2_21 : decode cJ17_copyOf_2 21 = .ok (.checkcast 110, 3) := dk_192 0 110 (dk_at dksJ17_copyOf_2_0 21 rfl rfl)
theorem dJ17_copyOf_2_24 : decode cJ17_copyOf_2 24 = .ok (.astore_n 3, 1) := dk_78 (dk_at dksJ17_copyOf_2_1 0 rfl rfl)
theorem dJ17_copyOf_2_25 : decode cJ17_copyOf_2 25 = .ok (.aload_n 0, 1) := dk_42 (dk_at dksJ17_copyOf_2_1 1 rfl rfl)
theorem dJ17_copyOf_2_26 : decode cJ17_copyOf_2 26 = .ok (.iconst 0, 1) := dk_3 (dk_at dksJ17_copyOf_2_1 2 rfl rfl)
theorem dJ17_copyOf_2_27 : decode cJ17_copyOf_2 27 = .ok (.aload_n 3, 1) := dk_45 (dk_at dksJ17_copyOf_2_1 3 rfl rfl)
theorem dJ17_copyOf_2_28 : decode cJ17_copyOf_2 28 = .ok (.iconst 0, 1) := dk_3 (dk_at dksJ17_copyOf_2_1 4 rfl rfl)
theorem dJ17_copyOf_2_29 : decode cJ17_copyOf_2 29 = .ok (.aload_n 0, 1) := dk_42 (dk_at dksJ17_copyOf_2_1 5 rfl rfl)
theorem dJ17_copyOf_2_30 : decode cJ17_copyOf_2 30 = .ok (.arraylength, 1) := dk_190 (dk_at dksJ17_copyOf_2_1 6 rfl rfl)
theorem dJ17_copyOf_2_31 : decode cJ17_copyOf_2 31 = .ok (.iload_n 1, 1) := dk_27 (dk_at dksJ17_copyOf_2_1 7 rfl rfl)
theorem dJ17_copyOf_2_32 : decode cJ17_copyOf_2 32 = .ok (.invokestatic 304, 3) := dk_184 1 48 (dk_at dksJ17_copyOf_2_1 8 rfl rfl)
theorem dJ17_copyOf_2_35 : decode cJ17_copyOf_2 35 = .ok (.invokestatic 150, 3) := dk_184 0 150 (dk_at dksJ17_copyOf_2_1 11 rfl rfl)
theorem dJ17_copyOf_2_38 : decode cJ17_copyOf_2 38 = .ok (.aload_n 3, 1) := dk_45 (dk_at dksJ17_copyOf_2_1 14 rfl rfl)
theorem dJ17_copyOf_2_39 : decode cJ17_copyOf_2 39 = .ok (.areturn, 1) := dk_176 (dk_at dksJ17_copyOf_2_1 15 rfl rfl)
theorem q73 : (Jvm.Cond.initialized "java/util/Arrays") ∈ lw_all := lw_g (lw_at lw_m1 24 rfl) rfl
theorem q362 : (Jvm.Cond.static ({ cls := "java/util/Arrays", name := "copyOf", desc := "([Ljava/lang/Object;I)[Ljava/lang/Object;" } : Jvm.MethodName)) ∈ lw_all := lw_g (lw_at lw_m2 73 rfl) rfl
theorem q363 : (Jvm.Cond.code ({ cls := "java/util/Arrays", name := "copyOf", desc := "([Ljava/lang/Object;I)[Ljava/lang/Object;" } : Jvm.MethodName) prog_35_method_119_code (2 : Nat) (Option.some (Jvm.ClassFile.FieldType.array (Jvm.ClassFile.FieldType.object "java/lang/Object")))) ∈ lw_all := lw_g (lw_at lw_m2 74 rfl) rfl
theorem q364 : (Jvm.Cond.methodLink "java/util/Arrays" (86 : Nat) ({ cls := "java/lang/Object", name := "getClass", desc := "()Ljava/lang/Class;" } : Jvm.MethodName)) ∈ lw_all := lw_g (lw_at lw_m2 75 rfl) rfl
theorem q387 : (Jvm.Cond.methodLink "java/util/Arrays" (300 : Nat) ({ cls := "java/util/Arrays", name := "copyOf", desc := "([Ljava/lang/Object;ILjava/lang/Class;)[Ljava/lang/Object;" } : Jvm.MethodName)) ∈ lw_all := lw_g (lw_at lw_m2 98 rfl) rfl
theorem q388 : (Jvm.Cond.static ({ cls := "java/util/Arrays", name := "copyOf", desc := "([Ljava/lang/Object;ILjava/lang/Class;)[Ljava/lang/Object;" } : Jvm.MethodName)) ∈ lw_all := lw_g (lw_at lw_m2 99 rfl) rfl
theorem q389 : (Jvm.Cond.code ({ cls := "java/util/Arrays", name := "copyOf", desc := "([Ljava/lang/Object;ILjava/lang/Class;)[Ljava/lang/Object;" } : Jvm.MethodName) prog_35_method_120_code (4 : Nat) (Option.some (Jvm.ClassFile.FieldType.array (Jvm.ClassFile.FieldType.object "java/lang/Object")))) ∈ lw_all := lw_g (lw_at lw_m2 100 rfl) rfl
theorem q390 : (Jvm.Cond.classLink "java/util/Arrays" (110 : Nat) "[Ljava/lang/Object;") ∈ lw_all := lw_g (lw_at lw_m2 101 rfl) rfl
theorem q392 : (Jvm.Cond.classLink "java/util/Arrays" (2 : Nat) "java/lang/Object") ∈ lw_all := lw_g (lw_at lw_m2 103 rfl) rfl
theorem q393 : (Jvm.Cond.methodLink "java/util/Arrays" (304 : Nat) ({ cls := "java/lang/Math", name := "min", desc := "(II)I" } : Jvm.MethodName)) ∈ lw_all := lw_g (lw_at lw_m2 104 rfl) rfl
theorem q394 : (Jvm.Cond.methodLink "java/util/Arrays" (150 : Nat) ({ cls := "java/lang/System", name := "arraycopy", desc := "(Ljava/lang/Object;ILjava/lang/Object;II)V" } : Jvm.MethodName)) ∈ lw_all := lw_g (lw_at lw_m2 105 rfl) rfl

/-! java/lang/Object -/
set_option maxRecDepth 100000
def RJ18 : String := "java/lang/Object"
abbrev cJ18_init : ByteArray := object_method_1_code
def yJ18_init : MethodName := ⟨RJ18, "<init>", "()V"⟩
theorem dJ18_init_0 : decode cJ18_init 0 = .ok (.return_, 1) := by decide +kernel
theorem q89 : (Jvm.Cond.instanceMethod ({ cls := "java/lang/Object", name := "<init>", desc := "()V" } : Jvm.MethodName)) ∈ lw_all := lw_g (lw_at lw_m1 40 rfl) rfl
theorem q90 : (Jvm.Cond.code ({ cls := "java/lang/Object", name := "<init>", desc := "()V" } : Jvm.MethodName) object_method_1_code (1 : Nat) (Option.none : Option Jvm.ClassFile.FieldType)) ∈ lw_all := lw_g (lw_at lw_m1 41 rfl) rfl
theorem q365 : (Jvm.Cond.instanceMethod ({ cls := "java/lang/Object", name := "getClass", desc := "()Ljava/lang/Class;" } : Jvm.MethodName)) ∈ lw_all := lw_g (lw_at lw_m2 76 rfl) rfl
theorem q366 : (Jvm.Cond.sameMethod "java/lang/Object" "java/lang/Object" "getClass" "()Ljava/lang/Class;") ∈ lw_all := lw_g (lw_at lw_m2 77 rfl) rfl
theorem q386 : (Jvm.Cond.native ({ cls := "java/lang/Object", name := "getClass", desc := "()Ljava/lang/Class;" } : Jvm.MethodName)) ∈ lw_all := lw_g (lw_at lw_m2 97 rfl) rfl
theorem q1523 : (Jvm.Cond.declares ({ cls := "java/lang/Object", name := "getClass", desc := "()Ljava/lang/Class;" } : Jvm.MethodName)) ∈ lw_tbl := lw_at lw_m7 34 rfl

/-! java/util/ArrayList -/
set_option maxRecDepth 100000
def RJ2 : String := "java/util/ArrayList"
def TJ2 : u_T := fun k => match k with
  | 0 => ("java/util/AbstractList", "modCount", "I", false)
  | 1 => ("java/util/ArrayList", "elementData", "[Ljava/lang/Object;", false)
  | _ => ("java/util/ArrayList", "size", "I", false)
def tyJ2 : Nat → FieldType := fun k => match k with
  | 0 => .int
  | 1 => .array (.object "java/lang/Object")
  | _ => .int
abbrev wsJ20 : List Cond := u_ws RJ2 TJ2 3
theorem nmJ2 : ∀ a, a < 3 → ∀ b, b < 3 → a ≠ b → (TJ2 a).2.1 ≠ (TJ2 b).2.1 := by decide +kernel
theorem tyJ2_ok : ∀ k, k < 3 → parseFieldDescriptor (TJ2 k).2.2.1 = some (tyJ2 k) := by decide +kernel
abbrev cJ2_init : ByteArray := prog_34_method_2_code
def yJ2_init : MethodName := ⟨RJ2, "<init>", "()V"⟩
def dkwJ2_init_0 : List UInt8 := [42, 183, 0, 1, 42, 178, 0, 39, 181, 0, 9, 177]
abbrev dktJ2_init_0 : List UInt8 := dkwJ2_init_0 ++ []
theorem dksJ2_init_0 : cJ2_init.data.toList.drop 0 = dktJ2_init_0 := by decide +kernel
theorem dJ2_init_0 : decode cJ2_init 0 = .ok (.aload_n 0, 1) := dk_42 (dk_at dksJ2_init_0 0 rfl rfl)
theorem dJ2_init_1 : decode cJ2_init 1 = .ok (.invokespecial 1, 3) := dk_183 0 1 (dk_at dksJ2_init_0 1 rfl rfl)
theorem dJ2_init_4 : decode cJ2_init 4 = .ok (.aload_n 0, 1) := dk_42 (dk_at dksJ2_init_0 4 rfl rfl)
theorem dJ2_init_5 : decode cJ2_init 5 = .ok (.getstatic 39, 3) := dk_178 0 39 (dk_at dksJ2_init_0 5 rfl rfl)
theorem dJ2_init_8 : decode cJ2_init 8 = .ok (.putfield 9, 3) := dk_181 0 9 (dk_at dksJ2_init_0 8 rfl rfl)
theorem dJ2_init_11 : decode cJ2_init 11 = .ok (.return_, 1) := dk_177 (dk_at dksJ2_init_0 11 rfl rfl)
abbrev cJ2_size : ByteArray := prog_34_method_8_code
def yJ2_size : MethodName := ⟨RJ2, "size", "()I"⟩
theorem dJ2_size_0 : decode cJ2_size 0 = .ok (.aload_n 0, 1) := by decide +kernel
theorem dJ2_size_1 : decode cJ2_size 1 = .ok (.getfield 48, 3) := by decide +kernel
theorem dJ2_size_4 : decode cJ2_size 4 = .ok (.ireturn, 1) := by decide +kernel
abbrev cJ2_get : ByteArray := prog_34_method_20_code
def yJ2_get : MethodName := ⟨RJ2, "get", "(I)Ljava/lang/Object;"⟩
def dkwJ2_get_0 : List UInt8 := [27, 42, 180, 0, 48, 184, 0, 118, 87, 42, 27, 182, 0, 123, 176]
abbrev dktJ2_get_0 : List UInt8 := dkwJ2_get_0 ++ []
theorem dksJ2_get_0 : cJ2_get.data.toList.drop 0 = dktJ2_get_0 := by decide +kernel
theorem dJ2_get_0 : decode cJ2_get 0 = .ok (.iload_n 1, 1) := dk_27 (dk_at dksJ2_get_0 0 rfl rfl)
theorem dJ2_get_1 : decode cJ2_get 1 = .ok (.aload_n 0, 1) := dk_42 (dk_at dksJ2_get_0 1 rfl rfl)
theorem dJ2_get_2 : decode cJ2_get 2 = .ok (.getfield 48, 3) := dk_180 0 48 (dk_at dksJ2_get_0 2 rfl rfl)
theorem dJ2_get_5 : decode cJ2_get 5 = .ok (.invokestatic 118, 3) := dk_184 0 118 (dk_at dksJ2_get_0 5 rfl rfl)
theorem dJ2_get_8 : decode cJ2_get 8 = .ok (.pop, 1) := dk_87 (dk_at dksJ2_get_0 8 rfl rfl)
theorem dJ2_get_9 : decode cJ2_get 9 = .ok (.aload_n 0, 1) := dk_42 (dk_at dksJ2_get_0 9 rfl rfl)
theorem dJ2_get_10 : decode cJ2_get 10 = .ok (.iload_n 1, 1) := dk_27 (dk_at dksJ2_get_0 10 rfl rfl)
theorem dJ2_get_11 : decode cJ2_get 11 = .ok (.invokevirtual 123, 3) := dk_182 0 123 (dk_at dksJ2_get_0 11 rfl rfl)
theorem dJ2_get_14 : decode cJ2_get 14 = .ok (.areturn, 1) := dk_176 (dk_at dksJ2_get_0 14 rfl rfl)
abbrev cJ2_elementData : ByteArray := prog_34_method_18_code
def yJ2_elementData : MethodName := ⟨RJ2, "elementData", "(I)Ljava/lang/Object;"⟩
def dkwJ2_elementData_0 : List UInt8 := [42, 180, 0, 9, 27, 50, 176]
abbrev dktJ2_elementData_0 : List UInt8 := dkwJ2_elementData_0 ++ []
theorem dksJ2_elementData_0 : cJ2_elementData.data.toList.drop 0 = dktJ2_elementData_0 := by decide +kernel
theorem dJ2_elementData_0 : decode cJ2_elementData 0 = .ok (.aload_n 0, 1) := dk_42 (dk_at dksJ2_elementData_0 0 rfl rfl)
theorem dJ2_elementData_1 : decode cJ2_elementData 1 = .ok (.getfield 9, 3) := dk_180 0 9 (dk_at dksJ2_elementData_0 1 rfl rfl)
theorem dJ2_elementData_4 : decode cJ2_elementData 4 = .ok (.iload_n 1, 1) := dk_27 (dk_at dksJ2_elementData_0 4 rfl rfl)
theorem dJ2_elementData_5 : decode cJ2_elementData 5 = .ok (.aaload, 1) := dk_50 (dk_at dksJ2_elementData_0 5 rfl rfl)
theorem dJ2_elementData_6 : decode cJ2_elementData 6 = .ok (.areturn, 1) := dk_176 (dk_at dksJ2_elementData_0 6 rfl rfl)
abbrev cJ2_add : ByteArray := prog_34_method_25_code
def yJ2_add : MethodName := ⟨RJ2, "add", "(Ljava/lang/Object;)Z"⟩
def dkwJ2_add_1 : List UInt8 := [172]
abbrev dktJ2_add_1 : List UInt8 := dkwJ2_add_1 ++ []
def dkwJ2_add_0 : List UInt8 := [42, 89, 180, 0, 63, 4, 96, 181, 0, 63, 42, 43, 42, 180, 0, 9, 42, 180, 0, 48, 182, 0, 131, 4]
abbrev dktJ2_add_0 : List UInt8 := dkwJ2_add_0 ++ dktJ2_add_1
theorem dksJ2_add_0 : cJ2_add.data.toList.drop 0 = dktJ2_add_0 := by decide +kernel
theorem dksJ2_add_1 : cJ2_add.data.toList.drop 24 = dktJ2_add_1 := dk_seg dksJ2_add_0 24 rfl rfl
theorem dJ2_add_0 : decode cJ2_add 0 = .ok (.aload_n 0, 1) := dk_42 (dk_at dksJ2_add_0 0 rfl rfl)
theorem dJ2_add_1 : decode cJ2_add 1 = .ok (.dup, 1) := dk_89 (dk_at dksJ2_add_0 1 rfl rfl)
theorem dJ2_add_2 : decode cJ2_add 2 = .ok (.getfield 63, 3) := dk_180 0 63 (dk_at dksJ2_add_0 2 rfl rfl)
theorem dJ2_add_5 : decode cJ2_add 5 = .ok (.iconst 1, 1) := dk_4 (dk_at dksJ2_add_0 5 rfl rfl)
theorem dJ2_add_6 : decode cJ2_add 6 = .ok (.iadd, 1) := dk_96 (dk_at dksJ2_add_0 6 rfl rfl)
theorem dJ2_add_7 : decode cJ2_add 7 = .ok (.putfield 63, 3) := dk_181 0 63 (dk_at dksJ2_add_0 7 rfl rfl)
theorem dJ2_add_10 : decode cJ2_add 10 = .ok (.aload_n 0, 1) := dk_42 (dk_at dksJ2_add_0 10 rfl rfl)
theorem dJ2_add_11 : decode cJ2_add 11 = .ok (.aload_n 1, 1) := dk_43 (dk_at dksJ2_add_0 11 rfl rfl)
theorem dJ2_add_12 : decode cJ2_add 12 = .ok (.aload_n 0, 1) := dk_42 (dk_at dksJ2_add_0 12 rfl rfl)
theorem dJ2_add_13 : decode cJ2_add 13 = .ok (.getfield 9, 3) := dk_180 0 9 (dk_at dksJ2_add_0 13 rfl rfl)
theorem dJ2_add_16 : decode cJ2_add 16 = .ok (.aload_n 0, 1) := dk_42 (dk_at dksJ2_add_0 16 rfl rfl)
theorem dJ2_add_17 : decode cJ2_add 17 = .ok (.getfield 48, 3) := dk_180 0 48 (dk_at dksJ2_add_0 17 rfl rfl)
theorem dJ2_add_20 : decode cJ2_add 20 = .ok (.invokevirtual 131, 3) := dk_182 0 131 (dk_at dksJ2_add_0 20 rfl rfl)
theorem dJ2_add_23 : decode cJ2_add 23 = .ok (.iconst 1, 1) := dk_4 (dk_at dksJ2_add_0 23 rfl rfl)
theorem dJ2_add_24 : decode cJ2_add 24 = .ok (.ireturn, 1) := dk_172 (dk_at dksJ2_add_1 0 rfl rfl)
abbrev cJ2_add_2 : ByteArray := prog_34_method_24_code
def yJ2_add_2 : MethodName := ⟨RJ2, "add", "(Ljava/lang/Object;[Ljava/lang/Object;I)V"⟩
def dkwJ2_add_2_0 : List UInt8 := [29, 44, 190, 160, 0, 8, 42, 182, 0, 129, 77, 44, 29, 43, 83, 42, 29, 4, 96, 181, 0, 48, 177]
abbrev dktJ2_add_2_0 : List UInt8 := dkwJ2_add_2_0 ++ []
theorem dksJ2_add_2_0 : cJ2_add_2.data.toList.drop 0 = dktJ2_add_2_0 := by decide +kernel
theorem dJ2_add_2_0 : decode cJ2_add_2 0 = .ok (.iload_n 3, 1) := dk_29 (dk_at dksJ2_add_2_0 0 rfl rfl)
theorem dJ2_add_2_1 : decode cJ2_add_2 1 = .ok (.aload_n 2, 1) := dk_44 (dk_at dksJ2_add_2_0 1 rfl rfl)
theorem dJ2_add_2_2 : decode cJ2_add_2 2 = .ok (.arraylength, 1) := dk_190 (dk_at dksJ2_add_2_0 2 rfl rfl)
theorem dJ2_add_2_3 : decode cJ2_add_2 3 = .ok (.if_icmp .ne 8, 3) := dk_160 0 8 (dk_at dksJ2_add_2_0 3 rfl rfl)
theorem dJ2_add_2_6 : decode cJ2_add_2 6 = .ok (.aload_n 0, 1) := dk_42 (dk_at dksJ2_add_2_0 6 rfl rfl)
theorem dJ2_add_2_7 : decode cJ2_add_2 7 = .ok (.invokevirtual 129, 3) := dk_182 0 129 (dk_at dksJ2_add_2_0 7 rfl rfl)
theorem dJ2_add_2_10 : decode cJ2_add_2 10 = .ok (.astore_n 2, 1) := dk_77 (dk_at dksJ2_add_2_0 10 rfl rfl)
theorem dJ2_add_2_11 : decode cJ2_add_2 11 = .ok (.aload_n 2, 1) := dk_44 (dk_at dksJ2_add_2_0 11 rfl rfl)
theorem dJ2_add_2_12 : decode cJ2_add_2 12 = .ok (.iload_n 3, 1) := dk_29 (dk_at dksJ2_add_2_0 12 rfl rfl)
theorem dJ2_add_2_13 : decode cJ2_add_2 13 = .ok (.aload_n 1, 1) := dk_43 (dk_at dksJ2_add_2_0 13 rfl rfl)
theorem dJ2_add_2_14 : decode cJ2_add_2 14 = .ok (.aastore, 1) := dk_83 (dk_at dksJ2_add_2_0 14 rfl rfl)
theorem dJ2_add_2_15 : decode cJ2_add_2 15 = .ok (.aload_n 0, 1) := dk_42 (dk_at dksJ2_add_2_0 15 rfl rfl)
theorem dJ2_add_2_16 : decode cJ2_add_2 16 = .ok (.iload_n 3, 1) := dk_29 (dk_at dksJ2_add_2_0 16 rfl rfl)
theorem dJ2_add_2_17 : decode cJ2_add_2 17 = .ok (.iconst 1, 1) := dk_4 (dk_at dksJ2_add_2_0 17 rfl rfl)
theorem dJ2_add_2_18 : decode cJ2_add_2 18 = .ok (.iadd, 1) := dk_96 (dk_at dksJ2_add_2_0 18 rfl rfl)
theorem dJ2_add_2_19 : decode cJ2_add_2 19 = .ok (.putfield 48, 3) := dk_181 0 48 (dk_at dksJ2_add_2_0 19 rfl rfl)
theorem dJ2_add_2_22 : decode cJ2_add_2 22 = .ok (.return_, 1) := dk_177 (dk_at dksJ2_add_2_0 22 rfl rfl)
abbrev cJ2_grow : ByteArray := prog_34_method_7_code
def yJ2_grow : MethodName := ⟨RJ2, "grow", "()[Ljava/lang/Object;"⟩
def dkwJ2_grow_0 : List UInt8 := [42, 42, 180, 0, 48, 4, 96, 182, 0, 69, 176]
abbrev dktJ2_grow_0 : List UInt8 := dkwJ2_grow_0 ++ []
theorem dksJ2_grow_0 : cJ2_grow.data.toList.drop 0 = dktJ2_grow_0 := by decide +kernel
theorem dJ2_grow_0 : decode cJ2_grow 0 = .ok (.aload_n 0, 1) := dk_42 (dk_at dksJ2_grow_0 0 rfl rfl)
theorem dJ2_grow_1 : decode cJ2_grow 1 = .ok (.aload_n 0, 1) := dk_42 (dk_at dksJ2_grow_0 1 rfl rfl)
theorem dJ2_grow_2 : decode cJ2_grow 2 = .ok (.getfield 48, 3) := dk_180 0 48 (dk_at dksJ2_grow_0 2 rfl rfl)
theorem dJ2_grow_5 : decode cJ2_grow 5 = .ok (.iconst 1, 1) := dk_4 (dk_at dksJ2_grow_0 5 rfl rfl)
theorem dJ2_grow_6 : decode cJ2_grow 6 = .ok (.iadd, 1) := dk_96 (dk_at dksJ2_grow_0 6 rfl rfl)
theorem dJ2_grow_7 : decode cJ2_grow 7 = .ok (.invokevirtual 69, 3) := dk_182 0 69 (dk_at dksJ2_grow_0 7 rfl rfl)
theorem dJ2_grow_10 : decode cJ2_grow 10 = .ok (.areturn, 1) := dk_176 (dk_at dksJ2_grow_0 10 rfl rfl)
abbrev cJ2_grow_2 : ByteArray := prog_34_method_6_code
def yJ2_grow_2 : MethodName := ⟨RJ2, "grow", "(I)[Ljava/lang/Object;"⟩
def dkwJ2_grow_2_2 : List UInt8 := [27, 184, 0, 79, 189, 0, 7, 90, 181, 0, 9, 176]
abbrev dktJ2_grow_2_2 : List UInt8 := dkwJ2_grow_2_2 ++ []
def dkwJ2_grow_2_1 : List UInt8 := [28, 4, 122, 184, 0, 73, 62, 42, 42, 180, 0, 9, 29, 184, 0, 66, 90, 181, 0, 9, 176, 42, 16, 10]
abbrev dktJ2_grow_2_1 : List UInt8 := dkwJ2_grow_2_1 ++ dktJ2_grow_2_2
def dkwJ2_grow_2_0 : List UInt8 := [42, 180, 0, 9, 190, 61, 28, 157, 0, 13, 42, 180, 0, 9, 178, 0, 39, 165, 0, 28, 28, 27, 28, 100]
abbrev dktJ2_grow_2_0 : List UInt8 := dkwJ2_grow_2_0 ++ dktJ2_grow_2_1
theorem dksJ2_grow_2_0 : cJ2_grow_2.data.toList.drop 0 = dktJ2_grow_2_0 := by decide +kernel
theorem dksJ2_grow_2_1 : cJ2_grow_2.data.toList.drop 24 = dktJ2_grow_2_1 := dk_seg dksJ2_grow_2_0 24 rfl rfl
theorem dksJ2_grow_2_2 : cJ2_grow_2.data.toList.drop 48 = dktJ2_grow_2_2 := dk_seg dksJ2_grow_2_1 24 rfl rfl
theorem dJ2_grow_2_0 : decode cJ2_grow_2 0 = .ok (.aload_n 0, 1) := dk_42 (dk_at dksJ2_grow_2_0 0 rfl rfl)
theorem dJ2_grow_2_1 : decode cJ2_grow_2 1 = .ok (.getfield 9, 3) := dk_180 0 9 (dk_at dksJ2_grow_2_0 1 rfl rfl)
theorem dJ2_grow_2_4 : decode cJ2_grow_2 4 = .ok (.arraylength, 1) := dk_190 (dk_at dksJ2_grow_2_0 4 rfl rfl)
theorem dJ2_grow_2_5 : decode cJ2_grow_2 5 = .ok (.istore_n 2, 1) := dk_61 (dk_at dksJ2_grow_2_0 5 rfl rfl)
theorem dJ2_grow_2_6 : decode cJ2_grow_2 6 = .ok (.iload_n 2, 1) := dk_28 (dk_at dksJ2_grow_2_0 6 rfl rfl)
theorem dJ2_grow_2_7 : decode cJ2_grow_2 7 = .ok (.ifCond .gt 13, 3) := dk_157 0 13 (dk_at dksJ2_grow_2_0 7 rfl rfl)
theorem dJ2_grow_2_10 : decode cJ2_grow_2 10 = .ok (.aload_n 0, 1) := dk_42 (dk_at dksJ2_grow_2_0 10 rfl rfl)
theorem dJ2_grow_2_11 : decode cJ2_grow_2 11 = .ok (.getfield 9, 3) := dk_180 0 9 (dk_at dksJ2_grow_2_0 11 rfl rfl)
theorem dJ2_grow_2_14 : decode cJ2_grow_2 14 = .ok (.getstatic 39, 3) := dk_178 0 39 (dk_at dksJ2_grow_2_0 14 rfl rfl)
theorem dJ2_grow_2_17 : decode cJ2_grow_2 17 = .ok (.if_acmp .eq 28, 3) := dk_165 0 28 (dk_at dksJ2_grow_2_0 17 rfl rfl)
theorem dJ2_grow_2_20 : decode cJ2_grow_2 20 = .ok (.iload_n 2, 1) := dk_28 (dk_at dksJ2_grow_2_0 20 rfl rfl)
theorem dJ2_grow_2_21 : decode cJ2_grow_2 21 = .ok (.iload_n 1, 1) := dk_27 (dk_at dksJ2_grow_2_0 21 rfl rfl)
theorem dJ2_grow_2_22 : decode cJ2_grow_2 22 = .ok (.iload_n 2, 1) := dk_28 (dk_at dksJ2_grow_2_0 22 rfl rfl)
theorem dJ2_grow_2_23 : decode cJ2_grow_2 23 = .ok (.isub, 1) := dk_100 (dk_at dksJ2_grow_2_0 23 rfl rfl)
theorem dJ2_grow_2_24 : decode cJ2_grow_2 24 = .ok (.iload_n 2, 1) := dk_28 (dk_at dksJ2_grow_2_1 0 rfl rfl)
theorem dJ2_grow_2_25 : decode cJ2_grow_2 25 = .ok (.iconst 1, 1) := dk_4 (dk_at dksJ2_grow_2_1 1 rfl rfl)
theorem dJ2_grow_2_26 : decode cJ2_grow_2 26 = .ok (.ishr, 1) := dk_122 (dk_at dksJ2_grow_2_1 2 rfl rfl)
theorem dJ2_grow_2_27 : decode cJ2_grow_2 27 = .ok (.invokestatic 73, 3) := dk_184 0 73 (dk_at dksJ2_grow_2_1 3 rfl rfl)
theorem dJ2_grow_2_30 : decode cJ2_grow_2 30 = .ok (.istore_n 3, 1) := dk_62 (dk_at dksJ2_grow_2_1 6 rfl rfl)
theorem dJ2_grow_2_31 : decode cJ2_grow_2 31 = .ok (.aload_n 0, 1) := dk_42 (dk_at dksJ2_grow_2_1 7 rfl rfl)
theorem dJ2_grow_2_32 : decode cJ2_grow_2 32 = .ok (.aload_n 0, 1) := dk_42 (dk_at dksJ2_grow_2_1 8 rfl rfl)
theorem dJ2_grow_2_33 : decode cJ2_grow_2 33 = .ok (.getfield 9, 3) := dk_180 0 9 (dk_at dksJ2_grow_2_1 9 rfl rfl)
theorem dJ2_grow_2_36 : decode cJ2_grow_2 36 = .ok (.iload_n 3, 1) := dk_29 (dk_at dksJ2_grow_2_1 12 rfl rfl)
theorem dJ2_grow_2_37 : decode cJ2_grow_2 37 = .ok (.invokestatic 66, 3) := dk_184 0 66 (dk_at dksJ2_grow_2_1 13 rfl rfl)
theorem dJ2_grow_2_40 : decode cJ2_grow_2 40 = .ok (.dup_x1, 1) := dk_90 (dk_at dksJ2_grow_2_1 16 rfl rfl)
theorem dJ2_grow_2_41 : decode cJ2_grow_2 41 = .ok (.putfield 9, 3) := dk_181 0 9 (dk_at dksJ2_grow_2_1 17 rfl rfl)
theorem dJ2_grow_2_44 : decode cJ2_grow_2 44 = .ok (.areturn, 1) := dk_176 (dk_at dksJ2_grow_2_1 20 rfl rfl)
theorem dJ2_grow_2_45 : decode cJ2_grow_2 45 = .ok (.aload_n 0, 1) := dk_42 (dk_at dksJ2_grow_2_1 21 rfl rfl)
theorem dJ2_grow_2_46 : decode cJ2_grow_2 46 = .ok (.bipush 10, 2) := dk_16 10 (dk_at dksJ2_grow_2_1 22 rfl rfl)
theorem dJ2_grow_2_48 : decode cJ2_grow_2 48 = .ok (.iload_n 1, 1) := dk_27 (dk_at dksJ2_grow_2_2 0 rfl rfl)
theorem dJ2_grow_2_49 : decode cJ2_grow_2 49 = .ok (.invokestatic 79, 3) := dk_184 0 79 (dk_at dksJ2_grow_2_2 1 rfl rfl)
theorem dJ2_grow_2_52 : decode cJ2_grow_2 52 = .ok (.anewarray 7, 3) := dk_189 0 7 (dk_at dksJ2_grow_2_2 4 rfl rfl)
theorem dJ2_grow_2_55 : decode cJ2_grow_2 55 = .ok (.dup_x1, 1) := dk_90 (dk_at dksJ2_grow_2_2 7 rfl rfl)
theorem dJ2_grow_2_56 : decode cJ2_grow_2 56 = .ok (.putfield 9, 3) := dk_181 0 9 (dk_at dksJ2_grow_2_2 8 rfl rfl)
theorem dJ2_grow_2_59 : decode cJ2_grow_2 59 = .ok (.areturn, 1) := dk_176 (dk_at dksJ2_grow_2_2 11 rfl rfl)
abbrev cJ2_init_2 : ByteArray := prog_34_method_1_code
def yJ2_init_2 : MethodName := ⟨RJ2, "<init>", "(I)V"⟩
def dkwJ2_init_2_2 : List UInt8 := [182, 0, 25, 27, 182, 0, 29, 182, 0, 32, 183, 0, 36, 191, 177]
abbrev dktJ2_init_2_2 : List UInt8 := dkwJ2_init_2_2 ++ []
def dkwJ2_init_2_1 : List UInt8 := [178, 0, 15, 181, 0, 9, 167, 0, 30, 187, 0, 18, 89, 187, 0, 20, 89, 183, 0, 22, 18, 23]
abbrev dktJ2_init_2_1 : List UInt8 := dkwJ2_init_2_1 ++ dktJ2_init_2_2
def dkwJ2_init_2_0 : List UInt8 := [42, 183, 0, 1, 27, 158, 0, 14, 42, 27, 189, 0, 7, 181, 0, 9, 167, 0, 44, 27, 154, 0, 13, 42]
abbrev dktJ2_init_2_0 : List UInt8 := dkwJ2_init_2_0 ++ dktJ2_init_2_1
theorem dksJ2_init_2_0 : cJ2_init_2.data.toList.drop 0 = dktJ2_init_2_0 := by decide +kernel
theorem dksJ2_init_2_1 : cJ2_init_2.data.toList.drop 24 = dktJ2_init_2_1 := dk_seg dksJ2_init_2_0 24 rfl rfl
theorem dksJ2_init_2_2 : cJ2_init_2.data.toList.drop 46 = dktJ2_init_2_2 := dk_seg dksJ2_init_2_1 22 rfl rfl
theorem dJ2_init_2_0 : decode cJ2_init_2 0 = .ok (.aload_n 0, 1) := dk_42 (dk_at dksJ2_init_2_0 0 rfl rfl)
theorem dJ2_init_2_1 : decode cJ2_init_2 1 = .ok (.invokespecial 1, 3) := dk_183 0 1 (dk_at dksJ2_init_2_0 1 rfl rfl)
theorem dJ2_init_2_4 : decode cJ2_init_2 4 = .ok (.iload_n 1, 1) := dk_27 (dk_at dksJ2_init_2_0 4 rfl rfl)
theorem dJ2_init_2_5 : decode cJ2_init_2 5 = .ok (.ifCond .le 14, 3) := dk_158 0 14 (dk_at dksJ2_init_2_0 5 rfl rfl)
theorem dJ2_init_2_8 : decode cJ2_init_2 8 = .ok (.aload_n 0, 1) := dk_42 (dk_at dksJ2_init_2_0 8 rfl rfl)
theorem dJ2_init_2_9 : decode cJ2_init_2 9 = .ok (.iload_n 1, 1) := dk_27 (dk_at dksJ2_init_2_0 9 rfl rfl)
theorem dJ2_init_2_10 : decode cJ2_init_2 10 = .ok (.anewarray 7, 3) := dk_189 0 7 (dk_at dksJ2_init_2_0 10 rfl rfl)
theorem dJ2_init_2_13 : decode cJ2_init_2 13 = .ok (.putfield 9, 3) := dk_181 0 9 (dk_at dksJ2_init_2_0 13 rfl rfl)
theorem dJ2_init_2_16 : decode cJ2_init_2 16 = .ok (.goto 44, 3) := dk_167 0 44 (dk_at dksJ2_init_2_0 16 rfl rfl)
theorem dJ2_init_2_19 : decode cJ2_init_2 19 = .ok (.iload_n 1, 1) := dk_27 (dk_at dksJ2_init_2_0 19 rfl rfl)
theorem dJ2_init_2_20 : decode cJ2_init_2 20 = .ok (.ifCond .ne 13, 3) := dk_154 0 13 (dk_at dksJ2_init_2_0 20 rfl rfl)
theorem dJ2_init_2_23 : decode cJ2_init_2 23 = .ok (.aload_n 0, 1) := dk_42 (dk_at dksJ2_init_2_0 23 rfl rfl)
theorem dJ2_init_2_24 : decode cJ2_init_2 24 = .ok (.getstatic 15, 3) := dk_178 0 15 (dk_at dksJ2_init_2_1 0 rfl rfl)
theorem dJ2_init_2_27 : decode cJ2_init_2 27 = .ok (.putfield 9, 3) := dk_181 0 9 (dk_at dksJ2_init_2_1 3 rfl rfl)
theorem dJ2_init_2_30 : decode cJ2_init_2 30 = .ok (.goto 30, 3) := dk_167 0 30 (dk_at dksJ2_init_2_1 6 rfl rfl)
theorem dJ2_init_2_33 : decode cJ2_init_2 33 = .ok (.new 18, 3) := dk_187 0 18 (dk_at dksJ2_init_2_1 9 rfl rfl)
theorem dJ2_init_2_36 : decode cJ2_init_2 36 = .ok (.dup, 1) := dk_89 (dk_at dksJ2_init_2_1 12 rfl rfl)
theorem dJ2_init_2_37 : decode cJ2_init_2 37 = .ok (.new 20, 3) := dk_187 0 20 (dk_at dksJ2_init_2_1 13 rfl rfl)
theorem dJ2_init_2_40 : decode cJ2_init_2 40 = .ok (.dup, 1) := dk_89 (dk_at dksJ2_init_2_1 16 rfl rfl)
theorem dJ2_init_2_41 : decode cJ2_init_2 41 = .ok (.invokespecial 22, 3) := dk_183 0 22 (dk_at dksJ2_init_2_1 17 rfl rfl)
theorem dJ2_init_2_44 : decode cJ2_init_2 44 = .ok (.ldc 23, 2) := dk_18 23 (dk_at dksJ2_init_2_1 20 rfl rfl)
theorem dJ2_init_2_46 : decode cJ2_init_2 46 = .ok (.invokevirtual 25, 3) := dk_182 0 25 (dk_at dksJ2_init_2_2 0 rfl rfl)
theorem dJ2_init_2_49 : decode cJ2_init_2 49 = .ok (.iload_n 1, 1) := dk_27 (dk_at dksJ2_init_2_2 3 rfl rfl)
theorem dJ2_init_2_50 : decode cJ2_init_2 50 = .ok (.invokevirtual 29, 3) := dk_182 0 29 (dk_at dksJ2_init_2_2 4 rfl rfl)
theorem dJ2_init_2_53 : decode cJ2_init_2 53 = .ok (.invokevirtual 32, 3) := dk_182 0 32 (dk_at dksJ2_init_2_2 7 rfl rfl)
theorem dJ2_init_2_56 : decode cJ2_init_2 56 = .ok (.invokespecial 36, 3) := dk_183 0 36 (dk_at dksJ2_init_2_2 10 rfl rfl)
theorem dJ2_init_2_59 : decode cJ2_init_2 59 = .ok (.athrow, 1) := dk_191 (dk_at dksJ2_init_2_2 13 rfl rfl)
theorem dJ2_init_2_60 : decode cJ2_init_2 60 = .ok (.return_, 1) := dk_177 (dk_at dksJ2_init_2_2 14 rfl rfl)
abbrev cJ2_isEmpty : ByteArray := prog_34_method_9_code
def yJ2_isEmpty : MethodName := ⟨RJ2, "isEmpty", "()Z"⟩
def dkwJ2_isEmpty_0 : List UInt8 := [42, 180, 0, 48, 154, 0, 7, 4, 167, 0, 4, 3, 172]
abbrev dktJ2_isEmpty_0 : List UInt8 := dkwJ2_isEmpty_0 ++ []
theorem dksJ2_isEmpty_0 : cJ2_isEmpty.data.toList.drop 0 = dktJ2_isEmpty_0 := by decide +kernel
theorem dJ2_isEmpty_0 : decode cJ2_isEmpty 0 = .ok (.aload_n 0, 1) := dk_42 (dk_at dksJ2_isEmpty_0 0 rfl rfl)
theorem dJ2_isEmpty_1 : decode cJ2_isEmpty 1 = .ok (.getfield 48, 3) := dk_180 0 48 (dk_at dksJ2_isEmpty_0 1 rfl rfl)
theorem dJ2_isEmpty_4 : decode cJ2_isEmpty 4 = .ok (.ifCond .ne 7, 3) := dk_154 0 7 (dk_at dksJ2_isEmpty_0 4 rfl rfl)
theorem dJ2_isEmpty_7 : decode cJ2_isEmpty 7 = .ok (.iconst 1, 1) := dk_4 (dk_at dksJ2_isEmpty_0 7 rfl rfl)
theorem dJ2_isEmpty_8 : decode cJ2_isEmpty 8 = .ok (.goto 4, 3) := dk_167 0 4 (dk_at dksJ2_isEmpty_0 8 rfl rfl)
theorem dJ2_isEmpty_11 : decode cJ2_isEmpty 11 = .ok (.iconst 0, 1) := dk_3 (dk_at dksJ2_isEmpty_0 11 rfl rfl)
theorem dJ2_isEmpty_12 : decode cJ2_isEmpty 12 = .ok (.ireturn, 1) := dk_172 (dk_at dksJ2_isEmpty_0 12 rfl rfl)
abbrev cJ2_clear : ByteArray := prog_34_method_40_code
def yJ2_clear : MethodName := ⟨RJ2, "clear", "()V"⟩
def dkwJ2_clear_1 : List UInt8 := [181, 0, 48, 62, 29, 28, 162, 0, 13, 43, 29, 1, 83, 132, 3, 1, 167, 255, 244, 177]
abbrev dktJ2_clear_1 : List UInt8 := dkwJ2_clear_1 ++ []
def dkwJ2_clear_0 : List UInt8 := [42, 89, 180, 0, 63, 4, 96, 181, 0, 63, 42, 180, 0, 9, 76, 42, 180, 0, 48, 61, 42, 3, 90]
abbrev dktJ2_clear_0 : List UInt8 := dkwJ2_clear_0 ++ dktJ2_clear_1
theorem dksJ2_clear_0 : cJ2_clear.data.toList.drop 0 = dktJ2_clear_0 := by decide +kernel
theorem dksJ2_clear_1 : cJ2_clear.data.toList.drop 23 = dktJ2_clear_1 := dk_seg dksJ2_clear_0 23 rfl rfl
theorem dJ2_clear_0 : decode cJ2_clear 0 = .ok (.aload_n 0, 1) := dk_42 (dk_at dksJ2_clear_0 0 rfl rfl)
theorem dJ2_clear_1 : decode cJ2_clear 1 = .ok (.dup, 1) := dk_89 (dk_at dksJ2_clear_0 1 rfl rfl)
theorem dJ2_clear_2 : decode cJ2_clear 2 = .ok (.getfield 63, 3) := dk_180 0 63 (dk_at dksJ2_clear_0 2 rfl rfl)
theorem dJ2_clear_5 : decode cJ2_clear 5 = .ok (.iconst 1, 1) := dk_4 (dk_at dksJ2_clear_0 5 rfl rfl)
theorem dJ2_clear_6 : decode cJ2_clear 6 = .ok (.iadd, 1) := dk_96 (dk_at dksJ2_clear_0 6 rfl rfl)
theorem dJ2_clear_7 : decode cJ2_clear 7 = .ok (.putfield 63, 3) := dk_181 0 63 (dk_at dksJ2_clear_0 7 rfl rfl)
theorem dJ2_clear_10 : decode cJ2_clear 10 = .ok (.aload_n 0, 1) := dk_42 (dk_at dksJ2_clear_0 10 rfl rfl)
theorem dJ2_clear_11 : decode cJ2_clear 11 = .ok (.getfield 9, 3) := dk_180 0 9 (dk_at dksJ2_clear_0 11 rfl rfl)
theorem dJ2_clear_14 : decode cJ2_clear 14 = .ok (.astore_n 1, 1) := dk_76 (dk_at dksJ2_clear_0 14 rfl rfl)
theorem dJ2_clear_15 : decode cJ2_clear 15 = .ok (.aload_n 0, 1) := dk_42 (dk_at dksJ2_clear_0 15 rfl rfl)
theorem dJ2_clear_16 : decode cJ2_clear 16 = .ok (.getfield 48, 3) := dk_180 0 48 (dk_at dksJ2_clear_0 16 rfl rfl)
theorem dJ2_clear_19 : decode cJ2_clear 19 = .ok (.istore_n 2, 1) := dk_61 (dk_at dksJ2_clear_0 19 rfl rfl)
theorem dJ2_clear_20 : decode cJ2_clear 20 = .ok (.aload_n 0, 1) := dk_42 (dk_at dksJ2_clear_0 20 rfl rfl)
theorem dJ2_clear_21 : decode cJ2_clear 21 = .ok (.iconst 0, 1) := dk_3 (dk_at dksJ2_clear_0 21 rfl rfl)
theorem dJ2_clear_22 : decode cJ2_clear 22 = .ok (.dup_x1, 1) := dk_90 (dk_at dksJ2_clear_0 22 rfl rfl)
theorem dJ2_clear_23 : decode cJ2_clear 23 = .ok (.putfield 48, 3) := dk_181 0 48 (dk_at dksJ2_clear_1 0 rfl rfl)
theorem dJ2_clear_26 : decode cJ2_clear 26 = .ok (.istore_n 3, 1) := dk_62 (dk_at dksJ2_clear_1 3 rfl rfl)
theorem dJ2_clear_27 : decode cJ2_clear 27 = .ok (.iload_n 3, 1) := dk_29 (dk_at dksJ2_clear_1 4 rfl rfl)
theorem dJ2_clear_28 : decode cJ2_clear 28 = .ok (.iload_n 2, 1) := dk_28 (dk_at dksJ2_clear_1 5 rfl rfl)
theorem dJ2_clear_29 : decode cJ2_clear 29 = .ok (.if_icmp .ge 13, 3) := dk_162 0 13 (dk_at dksJ2_clear_1 6 rfl rfl)
theorem dJ2_clear_32 : decode cJ2_clear 32 = .ok (.aload_n 1, 1) := dk_43 (dk_at dksJ2_clear_1 9 rfl rfl)
theorem dJ2_clear_33 : decode cJ2_clear 33 = .ok (.iload_n 3, 1) := dk_29 (dk_at dksJ2_clear_1 10 rfl rfl)
theorem dJ2_clear_34 : decode cJ2_clear 34 = .ok (.aconst_null, 1) := dk_1 (dk_at dksJ2_clear_1 11 rfl rfl)
theorem dJ2_clear_35 : decode cJ2_clear 35 = .ok (.aastore, 1) := dk_83 (dk_at dksJ2_clear_1 12 rfl rfl)
theorem dJ2_clear_36 : decode cJ2_clear 36 = .ok (.iinc 3 1, 3) := dk_132 3 1 (dk_at dksJ2_clear_1 13 rfl rfl)
theorem dJ2_clear_39 : decode cJ2_clear 39 = .ok (.goto (-12), 3) := dk_167 255 244 (dk_at dksJ2_clear_1 16 rfl rfl)
theorem dJ2_clear_42 : decode cJ2_clear 42 = .ok (.return_, 1) := dk_177 (dk_at dksJ2_clear_1 19 rfl rfl)
abbrev cJ2_addAll : ByteArray := prog_34_method_41_code
def yJ2_addAll : MethodName := ⟨RJ2, "addAll", "(Ljava/util/Collection;)Z"⟩
def dkwJ2_addAll_3 : List UInt8 := [181, 0, 48, 4, 172]
abbrev dktJ2_addAll_3 : List UInt8 := dkwJ2_addAll_3 ++ []
def dkwJ2_addAll_2 : List UInt8 := [21, 5, 29, 96, 182, 0, 69, 58, 4, 44, 3, 25, 4, 21, 5, 29, 184, 0, 112, 42, 21, 5, 29, 96]
abbrev dktJ2_addAll_2 : List UInt8 := dkwJ2_addAll_2 ++ dktJ2_addAll_3
def dkwJ2_addAll_1 : List UInt8 := [3, 172, 29, 42, 180, 0, 9, 89, 58, 4, 190, 42, 180, 0, 48, 89, 54, 5, 100, 164, 0, 13, 42]
abbrev dktJ2_addAll_1 : List UInt8 := dkwJ2_addAll_1 ++ dktJ2_addAll_2
def dkwJ2_addAll_0 : List UInt8 := [43, 185, 0, 42, 1, 0, 77, 42, 89, 180, 0, 63, 4, 96, 181, 0, 63, 44, 190, 62, 29, 154, 0, 5]
abbrev dktJ2_addAll_0 : List UInt8 := dkwJ2_addAll_0 ++ dktJ2_addAll_1
theorem dksJ2_addAll_0 : cJ2_addAll.data.toList.drop 0 = dktJ2_addAll_0 := by decide +kernel
theorem dksJ2_addAll_1 : cJ2_addAll.data.toList.drop 24 = dktJ2_addAll_1 := dk_seg dksJ2_addAll_0 24 rfl rfl
theorem dksJ2_addAll_2 : cJ2_addAll.data.toList.drop 47 = dktJ2_addAll_2 := dk_seg dksJ2_addAll_1 23 rfl rfl
theorem dksJ2_addAll_3 : cJ2_addAll.data.toList.drop 71 = dktJ2_addAll_3 := dk_seg dksJ2_addAll_2 24 rfl rfl
theorem dJ2_addAll_0 : decode cJ2_addAll 0 = .ok (.aload_n 1, 1) := dk_43 (dk_at dksJ2_addAll_0 0 rfl rfl)
theorem dJ2_addAll_1 : decode cJ2_addAll 1 = .ok (.invokeinterface 42 1, 5) := by decide +kernel
theorem dJ2_addAll_6 : decode cJ2_addAll 6 = .ok (.astore_n 2, 1) := dk_77 (dk_at dksJ2_addAll_0 6 rfl rfl)
theorem dJ2_addAll_7 : decode cJ2_addAll 7 = .ok (.aload_n 0, 1) := dk_42 (dk_at dksJ2_addAll_0 7 rfl rfl)
theorem dJ2_addAll_8 : decode cJ2_addAll 8 = .ok (.dup, 1) := dk_89 (dk_at dksJ2_addAll_0 8 rfl rfl)
theorem dJ2_addAll_9 : decode cJ2_addAll 9 = .ok (.getfield 63, 3) := dk_180 0 63 (dk_at dksJ2_addAll_0 9 rfl rfl)
theorem dJ2_addAll_12 : decode cJ2_addAll 12 = .ok (.iconst 1, 1) := dk_4 (dk_at dksJ2_addAll_0 12 rfl rfl)
theorem dJ2_addAll_13 : decode cJ2_addAll 13 = .ok (.iadd, 1) := dk_96 (dk_at dksJ2_addAll_0 13 rfl rfl)
theorem dJ2_addAll_14 : decode cJ2_addAll 14 = .ok (.putfield 63, 3) := dk_181 0 63 (dk_at dksJ2_addAll_0 14 rfl rfl)
theorem dJ2_addAll_17 : decode cJ2_addAll 17 = .ok (.aload_n 2, 1) := dk_44 (dk_at dksJ2_addAll_0 17 rfl rfl)
theorem dJ2_addAll_18 : decode cJ2_addAll 18 = .ok (.arraylength, 1) := dk_190 (dk_at dksJ2_addAll_0 18 rfl rfl)
theorem dJ2_addAll_19 : decode cJ2_addAll 19 = .ok (.istore_n 3, 1) := dk_62 (dk_at dksJ2_addAll_0 19 rfl rfl)
theorem dJ2_addAll_20 : decode cJ2_addAll 20 = .ok (.iload_n 3, 1) := dk_29 (dk_at dksJ2_addAll_0 20 rfl rfl)
theorem dJ2_addAll_21 : decode cJ2_addAll 21 = .ok (.ifCond .ne 5, 3) := dk_154 0 5 (dk_at dksJ2_addAll_0 21 rfl rfl)
theorem dJ2_addAll_24 : decode cJ2_addAll 24 = .ok (.iconst 0, 1) := dk_3 (dk_at dksJ2_addAll_1 0 rfl rfl)
theorem dJ2_addAll_25 : decode cJ2_addAll 25 = .ok (.ireturn, 1) := dk_172 (dk_at dksJ2_addAll_1 1 rfl rfl)
theorem dJ2_addAll_26 : decode cJ2_addAll 26 = .ok (.iload_n 3, 1) := dk_29 (dk_at dksJ2_addAll_1 2 rfl rfl)
theorem dJ2_addAll_27 : decode cJ2_addAll 27 = .ok (.aload_n 0, 1) := dk_42 (dk_at dksJ2_addAll_1 3 rfl rfl)
theorem dJ2_addAll_28 : decode cJ2_addAll 28 = .ok (.getfield 9, 3) := dk_180 0 9 (dk_at dksJ2_addAll_1 4 rfl rfl)
theorem dJ2_addAll_31 : decode cJ2_addAll 31 = .ok (.dup, 1) := dk_89 (dk_at dksJ2_addAll_1 7 rfl rfl)
theorem dJ2_addAll_32 : decode cJ2_addAll 32 = .ok (.astore 4, 2) := dk_58 4 (dk_at dksJ2_addAll_1 8 rfl rfl)
theorem dJ2_addAll_34 : decode cJ2_addAll 34 = .ok (.arraylength, 1) := dk_190 (dk_at dksJ2_addAll_1 10 rfl rfl)
theorem dJ2_addAll_35 : decode cJ2_addAll 35 = .ok (.aload_n 0, 1) := dk_42 (dk_at dksJ2_addAll_1 11 rfl rfl)
theorem dJ2_addAll_36 : decode cJ2_addAll 36 = .ok (.getfield 48, 3) := dk_180 0 48 (dk_at dksJ2_addAll_1 12 rfl rfl)
theorem dJ2_addAll_39 : decode cJ2_addAll 39 = .ok (.dup, 1) := dk_89 (dk_at dksJ2_addAll_1 15 rfl rfl)
theorem dJ2_addAll_40 : decode cJ2_addAll 40 = .ok (.istore 5, 2) := dk_54 5 (dk_at dksJ2_addAll_1 16 rfl rfl)
theorem dJ2_addAll_42 : decode cJ2_addAll 42 = .ok (.isub, 1) := dk_100 (dk_at dksJ2_addAll_1 18 rfl rfl)
theorem dJ2_addAll_43 : decode cJ2_addAll 43 = .ok (.if_icmp .le 13, 3) := dk_164 0 13 (dk_at dksJ2_addAll_1 19 rfl rfl)
theorem dJ2_addAll_46 : decode cJ2_addAll 46 = .ok (.aload_n 0, 1) := dk_42 (dk_at dksJ2_addAll_1 22 rfl rfl)
theorem dJ2_addAll_47 : decode cJ2_addAll 47 = .ok (.iload 5, 2) := dk_21 5 (dk_at dksJ2_addAll_2 0 rfl rfl)
theorem dJ2_addAll_49 : decode cJ2_addAll 49 = .ok (.iload_n 3, 1) := dk_29 (dk_at dksJ2_addAll_2 2 rfl rfl)
theorem dJ2_addAll_50 : decode cJ2_addAll 50 = .ok (.iadd, 1) := dk_96 (dk_at dksJ2_addAll_2 3 rfl rfl)
theorem dJ2_addAll_51 : decode cJ2_addAll 51 = .ok (.invokevirtual 69, 3) := dk_182 0 69 (dk_at dksJ2_addAll_2 4 rfl rfl)
theorem dJ2_addAll_54 : decode cJ2_addAll 54 = .ok (.astore 4, 2) := dk_58 4 (dk_at dksJ2_addAll_2 7 rfl rfl)
theorem dJ2_addAll_56 : decode cJ2_addAll 56 = .ok (.aload_n 2, 1) := dk_44 (dk_at dksJ2_addAll_2 9 rfl rfl)
theorem dJ2_addAll_57 : decode cJ2_addAll 57 = .ok (.iconst 0, 1) := dk_3 (dk_at dksJ2_addAll_2 10 rfl rfl)
theorem dJ2_addAll_58 : decode cJ2_addAll 58 = .ok (.aload 4, 2) := dk_25 4 (dk_at dksJ2_addAll_2 11 rfl rfl)
theorem dJ2_addAll_60 : decode cJ2_addAll 60 = .ok (.iload 5, 2) := dk_21 5 (dk_at dksJ2_addAll_2 13 rfl rfl)
theorem dJ2_addAll_62 : decode cJ2_addAll 62 = .ok (.iload_n 3, 1) := dk_29 (dk_at dksJ2_addAll_2 15 rfl rfl)
theorem dJ2_addAll_63 : decode cJ2_addAll 63 = .ok (.invokestatic 112, 3) := dk_184 0 112 (dk_at dksJ2_addAll_2 16 rfl rfl)
theorem dJ2_addAll_66 : decode cJ2_addAll 66 = .ok (.aload_n 0, 1) := dk_42 (dk_at dksJ2_addAll_2 19 rfl rfl)
theorem dJ2_addAll_67 : decode cJ2_addAll 67 = .ok (.iload 5, 2) := dk_21 5 (dk_at dksJ2_addAll_2 20 rfl rfl)
theorem dJ2_addAll_69 : decode cJ2_addAll 69 = .ok (.iload_n 3, 1) := dk_29 (dk_at dksJ2_addAll_2 22 rfl rfl)
theorem dJ2_addAll_70 : decode cJ2_addAll 70 = .ok (.iadd, 1) := dk_96 (dk_at dksJ2_addAll_2 23 rfl rfl)
theorem dJ2_addAll_71 : decode cJ2_addAll 71 = .ok (.putfield 48, 3) := dk_181 0 48 (dk_at dksJ2_addAll_3 0 rfl rfl)
theorem dJ2_addAll_74 : decode cJ2_addAll 74 = .ok (.iconst 1, 1) := dk_4 (dk_at dksJ2_addAll_3 3 rfl rfl)
theorem dJ2_addAll_75 : decode cJ2_addAll 75 = .ok (.ireturn, 1) := dk_172 (dk_at dksJ2_addAll_3 4 rfl rfl)
abbrev cJ2_toArray : ByteArray := prog_34_method_16_code
def yJ2_toArray : MethodName := ⟨RJ2, "toArray", "()[Ljava/lang/Object;"⟩
def dkwJ2_toArray_0 : List UInt8 := [42, 180, 0, 9, 42, 180, 0, 48, 184, 0, 66, 176]
abbrev dktJ2_toArray_0 : List UInt8 := dkwJ2_toArray_0 ++ []
theorem dksJ2_toArray_0 : cJ2_toArray.data.toList.drop 0 = dktJ2_toArray_0 := by decide +kernel
theorem dJ2_toArray_0 : decode cJ2_toArray 0 = .ok (.aload_n 0, 1) := dk_42 (dk_at dksJ2_toArray_0 0 rfl rfl)
theorem dJ2_toArray_1 : decode cJ2_toArray 1 = .ok (.getfield 9, 3) := dk_180 0 9 (dk_at dksJ2_toArray_0 1 rfl rfl)
theorem dJ2_toArray_4 : decode cJ2_toArray 4 = .ok (.aload_n 0, 1) := dk_42 (dk_at dksJ2_toArray_0 4 rfl rfl)
theorem dJ2_toArray_5 : decode cJ2_toArray 5 = .ok (.getfield 48, 3) := dk_180 0 48 (dk_at dksJ2_toArray_0 5 rfl rfl)
theorem dJ2_toArray_8 : decode cJ2_toArray 8 = .ok (.invokestatic 66, 3) := dk_184 0 66 (dk_at dksJ2_toArray_0 8 rfl rfl)
theorem dJ2_toArray_11 : decode cJ2_toArray 11 = .ok (.areturn, 1) := dk_176 (dk_at dksJ2_toArray_0 11 rfl rfl)
theorem q53 : (Jvm.Cond.initialized "java/util/ArrayList") ∈ lw_all := lw_g (lw_at lw_m1 4 rfl) rfl
theorem q92 : (Jvm.Cond.instantiable "java/util/ArrayList" (3 : Nat)) ∈ lw_all := lw_g (lw_at lw_m1 43 rfl) rfl
theorem q94 : (Jvm.Cond.instanceMethod ({ cls := "java/util/ArrayList", name := "<init>", desc := "()V" } : Jvm.MethodName)) ∈ lw_all := lw_g (lw_at lw_m1 45 rfl) rfl
theorem q95 : (Jvm.Cond.code ({ cls := "java/util/ArrayList", name := "<init>", desc := "()V" } : Jvm.MethodName) prog_34_method_2_code (1 : Nat) (Option.none : Option Jvm.ClassFile.FieldType)) ∈ lw_all := lw_g (lw_at lw_m1 46 rfl) rfl
theorem q96 : (Jvm.Cond.methodLink "java/util/ArrayList" (1 : Nat) ({ cls := "java/util/AbstractList", name := "<init>", desc := "()V" } : Jvm.MethodName)) ∈ lw_all := lw_g (lw_at lw_m1 47 rfl) rfl
theorem q103 : (Jvm.Cond.fieldLink "java/util/ArrayList" (39 : Nat) "java/util/ArrayList" "DEFAULTCAPACITY_EMPTY_ELEMENTDATA" "[Ljava/lang/Object;") ∈ lw_all := lw_g (lw_at lw_m1 54 rfl) rfl
theorem q104 : (Jvm.Cond.laysStatic "java/util/ArrayList" "DEFAULTCAPACITY_EMPTY_ELEMENTDATA" "[Ljava/lang/Object;") ∈ lw_tbl := lw_at lw_m1 55 rfl
theorem q105 : (Jvm.Cond.fieldLink "java/util/ArrayList" (9 : Nat) "java/util/ArrayList" "elementData" "[Ljava/lang/Object;") ∈ lw_all := lw_g (lw_at lw_m1 56 rfl) rfl
theorem q106 : (Jvm.Cond.fieldLink "java/util/ArrayList" (48 : Nat) "java/util/ArrayList" "size" "I") ∈ lw_all := lw_g (lw_at lw_m1 57 rfl) rfl
theorem q108 : (Jvm.Cond.fieldLink "java/util/ArrayList" (63 : Nat) "java/util/ArrayList" "modCount" "I") ∈ lw_all := lw_g (lw_at lw_m1 59 rfl) rfl
theorem q109 : (Jvm.Cond.sameField "java/util/ArrayList" "java/util/AbstractList" "modCount" "I") ∈ lw_all := lw_g (lw_at lw_m1 60 rfl) rfl
theorem q110 : (Jvm.Cond.lays "java/util/ArrayList" "java/util/ArrayList" "elementData" "[Ljava/lang/Object;") ∈ lw_all := lw_g (lw_at lw_m1 61 rfl) rfl
theorem q111 : (Jvm.Cond.soleField "java/util/ArrayList" "elementData") ∈ lw_all := lw_g (lw_at lw_m1 62 rfl) rfl
theorem q112 : (Jvm.Cond.lays "java/util/ArrayList" "java/util/ArrayList" "size" "I") ∈ lw_all := lw_g (lw_at lw_m1 63 rfl) rfl
theorem q113 : (Jvm.Cond.soleField "java/util/ArrayList" "size") ∈ lw_all := lw_g (lw_at lw_m1 64 rfl) rfl
theorem q114 : (Jvm.Cond.lays "java/util/ArrayList" "java/util/AbstractList" "modCount" "I") ∈ lw_all := lw_g (lw_at lw_m1 65 rfl) rfl
theorem q116 : (Jvm.Cond.superclass "java/util/ArrayList" "java/util/AbstractList") ∈ lw_all := lw_g (lw_at lw_m1 67 rfl) rfl
theorem q179 : (Jvm.Cond.castable "java/util/ArrayList" "java/util/List") ∈ lw_tbl := lw_at lw_m1 130 rfl
theorem q180 : (Jvm.Cond.selects "java/util/ArrayList" ({ cls := "java/util/List", name := "size", desc := "()I" } : Jvm.MethodName) ({ cls := "java/util/ArrayList", name := "size", desc := "()I" } : Jvm.MethodName)) ∈ lw_all := lw_g (lw_at lw_m1 131 rfl) rfl
theorem q181 : (Jvm.Cond.unhidden "java/util/ArrayList" "size" "()I") ∈ lw_tbl := lw_at lw_m1 132 rfl
theorem q182 : (Jvm.Cond.instanceMethod ({ cls := "java/util/ArrayList", name := "size", desc := "()I" } : Jvm.MethodName)) ∈ lw_all := lw_g (lw_at lw_m1 133 rfl) rfl
theorem q183 : (Jvm.Cond.publicMethod ({ cls := "java/util/ArrayList", name := "size", desc := "()I" } : Jvm.MethodName)) ∈ lw_tbl := lw_at lw_m1 134 rfl
theorem q184 : (Jvm.Cond.code ({ cls := "java/util/ArrayList", name := "size", desc := "()I" } : Jvm.MethodName) prog_34_method_8_code (1 : Nat) (Option.some Jvm.ClassFile.FieldType.int)) ∈ lw_all := lw_g (lw_at lw_m1 135 rfl) rfl
theorem q192 : (Jvm.Cond.selects "java/util/ArrayList" ({ cls := "java/util/List", name := "get", desc := "(I)Ljava/lang/Object;" } : Jvm.MethodName) ({ cls := "java/util/ArrayList", name := "get", desc := "(I)Ljava/lang/Object;" } : Jvm.MethodName)) ∈ lw_all := lw_g (lw_at lw_m1 143 rfl) rfl
theorem q193 : (Jvm.Cond.unhidden "java/util/ArrayList" "get" "(I)Ljava/lang/Object;") ∈ lw_tbl := lw_at lw_m1 144 rfl
theorem q194 : (Jvm.Cond.instanceMethod ({ cls := "java/util/ArrayList", name := "get", desc := "(I)Ljava/lang/Object;" } : Jvm.MethodName)) ∈ lw_all := lw_g (lw_at lw_m1 145 rfl) rfl
theorem q195 : (Jvm.Cond.publicMethod ({ cls := "java/util/ArrayList", name := "get", desc := "(I)Ljava/lang/Object;" } : Jvm.MethodName)) ∈ lw_tbl := lw_at lw_m1 146 rfl
theorem q196 : (Jvm.Cond.code ({ cls := "java/util/ArrayList", name := "get", desc := "(I)Ljava/lang/Object;" } : Jvm.MethodName) prog_34_method_20_code (2 : Nat) (Option.some (Jvm.ClassFile.FieldType.object "java/lang/Object"))) ∈ lw_all := lw_g (lw_at lw_m1 147 rfl) rfl
theorem q197 : (Jvm.Cond.methodLink "java/util/ArrayList" (118 : Nat) ({ cls := "java/util/Objects", name := "checkIndex", desc := "(II)I" } : Jvm.MethodName)) ∈ lw_all := lw_g (lw_at lw_m1 148 rfl) rfl
theorem q203 : (Jvm.Cond.methodLink "java/util/ArrayList" (123 : Nat) ({ cls := "java/util/ArrayList", name := "elementData", desc := "(I)Ljava/lang/Object;" } : Jvm.MethodName)) ∈ lw_all := lw_g (lw_at lw_m1 154 rfl) rfl
theorem q204 : (Jvm.Cond.instanceMethod ({ cls := "java/util/ArrayList", name := "elementData", desc := "(I)Ljava/lang/Object;" } : Jvm.MethodName)) ∈ lw_all := lw_g (lw_at lw_m1 155 rfl) rfl
theorem q205 : (Jvm.Cond.selects "java/util/ArrayList" ({ cls := "java/util/ArrayList", name := "elementData", desc := "(I)Ljava/lang/Object;" } : Jvm.MethodName) ({ cls := "java/util/ArrayList", name := "elementData", desc := "(I)Ljava/lang/Object;" } : Jvm.MethodName)) ∈ lw_all := lw_g (lw_at lw_m1 156 rfl) rfl
theorem q206 : (Jvm.Cond.code ({ cls := "java/util/ArrayList", name := "elementData", desc := "(I)Ljava/lang/Object;" } : Jvm.MethodName) prog_34_method_18_code (2 : Nat) (Option.some (Jvm.ClassFile.FieldType.object "java/lang/Object"))) ∈ lw_all := lw_g (lw_at lw_m1 157 rfl) rfl
theorem q334 : (Jvm.Cond.selects "java/util/ArrayList" ({ cls := "java/util/List", name := "add", desc := "(Ljava/lang/Object;)Z" } : Jvm.MethodName) ({ cls := "java/util/ArrayList", name := "add", desc := "(Ljava/lang/Object;)Z" } : Jvm.MethodName)) ∈ lw_all := lw_g (lw_at lw_m2 45 rfl) rfl
theorem q335 : (Jvm.Cond.unhidden "java/util/ArrayList" "add" "(Ljava/lang/Object;)Z") ∈ lw_tbl := lw_at lw_m2 46 rfl
theorem q336 : (Jvm.Cond.instanceMethod ({ cls := "java/util/ArrayList", name := "add", desc := "(Ljava/lang/Object;)Z" } : Jvm.MethodName)) ∈ lw_all := lw_g (lw_at lw_m2 47 rfl) rfl
theorem q337 : (Jvm.Cond.publicMethod ({ cls := "java/util/ArrayList", name := "add", desc := "(Ljava/lang/Object;)Z" } : Jvm.MethodName)) ∈ lw_tbl := lw_at lw_m2 48 rfl
theorem q338 : (Jvm.Cond.code ({ cls := "java/util/ArrayList", name := "add", desc := "(Ljava/lang/Object;)Z" } : Jvm.MethodName) prog_34_method_25_code (2 : Nat) (Option.some Jvm.ClassFile.FieldType.boolean)) ∈ lw_all := lw_g (lw_at lw_m2 49 rfl) rfl
theorem q339 : (Jvm.Cond.methodLink "java/util/ArrayList" (131 : Nat) ({ cls := "java/util/ArrayList", name := "add", desc := "(Ljava/lang/Object;[Ljava/lang/Object;I)V" } : Jvm.MethodName)) ∈ lw_all := lw_g (lw_at lw_m2 50 rfl) rfl
theorem q340 : (Jvm.Cond.privateMethod ({ cls := "java/util/ArrayList", name := "add", desc := "(Ljava/lang/Object;[Ljava/lang/Object;I)V" } : Jvm.MethodName)) ∈ lw_tbl := lw_at lw_m2 51 rfl
theorem q341 : (Jvm.Cond.instanceMethod ({ cls := "java/util/ArrayList", name := "add", desc := "(Ljava/lang/Object;[Ljava/lang/Object;I)V" } : Jvm.MethodName)) ∈ lw_all := lw_g (lw_at lw_m2 52 rfl) rfl
theorem q342 : (Jvm.Cond.code ({ cls := "java/util/ArrayList", name := "add", desc := "(Ljava/lang/Object;[Ljava/lang/Object;I)V" } : Jvm.MethodName) prog_34_method_24_code (4 : Nat) (Option.none : Option Jvm.ClassFile.FieldType)) ∈ lw_all := lw_g (lw_at lw_m2 53 rfl) rfl
theorem q343 : (Jvm.Cond.methodLink "java/util/ArrayList" (129 : Nat) ({ cls := "java/util/ArrayList", name := "grow", desc := "()[Ljava/lang/Object;" } : Jvm.MethodName)) ∈ lw_all := lw_g (lw_at lw_m2 54 rfl) rfl
theorem q344 : (Jvm.Cond.privateMethod ({ cls := "java/util/ArrayList", name := "grow", desc := "()[Ljava/lang/Object;" } : Jvm.MethodName)) ∈ lw_tbl := lw_at lw_m2 55 rfl
theorem q345 : (Jvm.Cond.instanceMethod ({ cls := "java/util/ArrayList", name := "grow", desc := "()[Ljava/lang/Object;" } : Jvm.MethodName)) ∈ lw_all := lw_g (lw_at lw_m2 56 rfl) rfl
theorem q346 : (Jvm.Cond.code ({ cls := "java/util/ArrayList", name := "grow", desc := "()[Ljava/lang/Object;" } : Jvm.MethodName) prog_34_method_7_code (1 : Nat) (Option.some (Jvm.ClassFile.FieldType.array (Jvm.ClassFile.FieldType.object "java/lang/Object")))) ∈ lw_all := lw_g (lw_at lw_m2 57 rfl) rfl
theorem q347 : (Jvm.Cond.methodLink "java/util/ArrayList" (69 : Nat) ({ cls := "java/util/ArrayList", name := "grow", desc := "(I)[Ljava/lang/Object;" } : Jvm.MethodName)) ∈ lw_all := lw_g (lw_at lw_m2 58 rfl) rfl
theorem q348 : (Jvm.Cond.privateMethod ({ cls := "java/util/ArrayList", name := "grow", desc := "(I)[Ljava/lang/Object;" } : Jvm.MethodName)) ∈ lw_tbl := lw_at lw_m2 59 rfl
theorem q349 : (Jvm.Cond.instanceMethod ({ cls := "java/util/ArrayList", name := "grow", desc := "(I)[Ljava/lang/Object;" } : Jvm.MethodName)) ∈ lw_all := lw_g (lw_at lw_m2 60 rfl) rfl
theorem q350 : (Jvm.Cond.code ({ cls := "java/util/ArrayList", name := "grow", desc := "(I)[Ljava/lang/Object;" } : Jvm.MethodName) prog_34_method_6_code (4 : Nat) (Option.some (Jvm.ClassFile.FieldType.array (Jvm.ClassFile.FieldType.object "java/lang/Object")))) ∈ lw_all := lw_g (lw_at lw_m2 61 rfl) rfl
theorem q351 : (Jvm.Cond.methodLink "java/util/ArrayList" (73 : Nat) ({ cls := "jdk/internal/util/ArraysSupport", name := "newLength", desc := "(III)I" } : Jvm.MethodName)) ∈ lw_all := lw_g (lw_at lw_m2 62 rfl) rfl
theorem q361 : (Jvm.Cond.methodLink "java/util/ArrayList" (66 : Nat) ({ cls := "java/util/Arrays", name := "copyOf", desc := "([Ljava/lang/Object;I)[Ljava/lang/Object;" } : Jvm.MethodName)) ∈ lw_all := lw_g (lw_at lw_m2 72 rfl) rfl
theorem q385 : (Jvm.Cond.selects "java/util/ArrayList" ({ cls := "java/lang/Object", name := "getClass", desc := "()Ljava/lang/Class;" } : Jvm.MethodName) ({ cls := "java/lang/Object", name := "getClass", desc := "()Ljava/lang/Class;" } : Jvm.MethodName)) ∈ lw_all := lw_g (lw_at lw_m2 96 rfl) rfl
theorem q397 : (Jvm.Cond.methodLink "java/util/ArrayList" (79 : Nat) ({ cls := "java/lang/Math", name := "max", desc := "(II)I" } : Jvm.MethodName)) ∈ lw_all := lw_g (lw_at lw_m2 108 rfl) rfl
theorem q398 : (Jvm.Cond.classLink "java/util/ArrayList" (7 : Nat) "java/lang/Object") ∈ lw_all := lw_g (lw_at lw_m2 109 rfl) rfl
theorem q875 : (Jvm.Cond.instanceMethod ({ cls := "java/util/ArrayList", name := "<init>", desc := "(I)V" } : Jvm.MethodName)) ∈ lw_all := lw_g (lw_at lw_m4 106 rfl) rfl
theorem q876 : (Jvm.Cond.code ({ cls := "java/util/ArrayList", name := "<init>", desc := "(I)V" } : Jvm.MethodName) prog_34_method_1_code (2 : Nat) (Option.none : Option Jvm.ClassFile.FieldType)) ∈ lw_all := lw_g (lw_at lw_m4 107 rfl) rfl
theorem q877 : (Jvm.Cond.fieldLink "java/util/ArrayList" (15 : Nat) "java/util/ArrayList" "EMPTY_ELEMENTDATA" "[Ljava/lang/Object;") ∈ lw_all := lw_g (lw_at lw_m4 108 rfl) rfl
theorem q878 : (Jvm.Cond.laysStatic "java/util/ArrayList" "EMPTY_ELEMENTDATA" "[Ljava/lang/Object;") ∈ lw_tbl := lw_at lw_m4 109 rfl
theorem q883 : (Jvm.Cond.selects "java/util/ArrayList" ({ cls := "java/util/List", name := "isEmpty", desc := "()Z" } : Jvm.MethodName) ({ cls := "java/util/ArrayList", name := "isEmpty", desc := "()Z" } : Jvm.MethodName)) ∈ lw_all := lw_g (lw_at lw_m4 114 rfl) rfl
theorem q884 : (Jvm.Cond.unhidden "java/util/ArrayList" "isEmpty" "()Z") ∈ lw_tbl := lw_at lw_m4 115 rfl
theorem q885 : (Jvm.Cond.instanceMethod ({ cls := "java/util/ArrayList", name := "isEmpty", desc := "()Z" } : Jvm.MethodName)) ∈ lw_all := lw_g (lw_at lw_m4 116 rfl) rfl
theorem q886 : (Jvm.Cond.publicMethod ({ cls := "java/util/ArrayList", name := "isEmpty", desc := "()Z" } : Jvm.MethodName)) ∈ lw_tbl := lw_at lw_m4 117 rfl
theorem q887 : (Jvm.Cond.code ({ cls := "java/util/ArrayList", name := "isEmpty", desc := "()Z" } : Jvm.MethodName) prog_34_method_9_code (1 : Nat) (Option.some Jvm.ClassFile.FieldType.boolean)) ∈ lw_all := lw_g (lw_at lw_m4 118 rfl) rfl
theorem q913 : (Jvm.Cond.selects "java/util/ArrayList" ({ cls := "java/util/List", name := "clear", desc := "()V" } : Jvm.MethodName) ({ cls := "java/util/ArrayList", name := "clear", desc := "()V" } : Jvm.MethodName)) ∈ lw_all := lw_g (lw_at lw_m4 144 rfl) rfl
theorem q914 : (Jvm.Cond.unhidden "java/util/ArrayList" "clear" "()V") ∈ lw_tbl := lw_at lw_m4 145 rfl
theorem q915 : (Jvm.Cond.instanceMethod ({ cls := "java/util/ArrayList", name := "clear", desc := "()V" } : Jvm.MethodName)) ∈ lw_all := lw_g (lw_at lw_m4 146 rfl) rfl
theorem q916 : (Jvm.Cond.publicMethod ({ cls := "java/util/ArrayList", name := "clear", desc := "()V" } : Jvm.MethodName)) ∈ lw_tbl := lw_at lw_m4 147 rfl
theorem q917 : (Jvm.Cond.code ({ cls := "java/util/ArrayList", name := "clear", desc := "()V" } : Jvm.MethodName) prog_34_method_40_code (4 : Nat) (Option.none : Option Jvm.ClassFile.FieldType)) ∈ lw_all := lw_g (lw_at lw_m4 148 rfl) rfl
theorem q922 : (Jvm.Cond.selects "java/util/ArrayList" ({ cls := "java/util/List", name := "addAll", desc := "(Ljava/util/Collection;)Z" } : Jvm.MethodName) ({ cls := "java/util/ArrayList", name := "addAll", desc := "(Ljava/util/Collection;)Z" } : Jvm.MethodName)) ∈ lw_all := lw_g (lw_at lw_m4 153 rfl) rfl
theorem q923 : (Jvm.Cond.unhidden "java/util/ArrayList" "addAll" "(Ljava/util/Collection;)Z") ∈ lw_tbl := lw_at lw_m4 154 rfl
theorem q924 : (Jvm.Cond.instanceMethod ({ cls := "java/util/ArrayList", name := "addAll", desc := "(Ljava/util/Collection;)Z" } : Jvm.MethodName)) ∈ lw_all := lw_g (lw_at lw_m4 155 rfl) rfl
theorem q925 : (Jvm.Cond.publicMethod ({ cls := "java/util/ArrayList", name := "addAll", desc := "(Ljava/util/Collection;)Z" } : Jvm.MethodName)) ∈ lw_tbl := lw_at lw_m4 156 rfl
theorem q926 : (Jvm.Cond.code ({ cls := "java/util/ArrayList", name := "addAll", desc := "(Ljava/util/Collection;)Z" } : Jvm.MethodName) prog_34_method_41_code (6 : Nat) (Option.some Jvm.ClassFile.FieldType.boolean)) ∈ lw_all := lw_g (lw_at lw_m4 157 rfl) rfl
theorem q927 : (Jvm.Cond.interfaceEntry "java/util/ArrayList" (42 : Nat)) ∈ lw_tbl := lw_at lw_m4 158 rfl
theorem q928 : (Jvm.Cond.methodLink "java/util/ArrayList" (42 : Nat) ({ cls := "java/util/Collection", name := "toArray", desc := "()[Ljava/lang/Object;" } : Jvm.MethodName)) ∈ lw_all := lw_g (lw_at lw_m4 159 rfl) rfl
theorem q931 : (Jvm.Cond.castable "java/util/ArrayList" "java/util/Collection") ∈ lw_tbl := lw_at lw_m4 162 rfl
theorem q932 : (Jvm.Cond.selects "java/util/ArrayList" ({ cls := "java/util/Collection", name := "toArray", desc := "()[Ljava/lang/Object;" } : Jvm.MethodName) ({ cls := "java/util/ArrayList", name := "toArray", desc := "()[Ljava/lang/Object;" } : Jvm.MethodName)) ∈ lw_all := lw_g (lw_at lw_m4 163 rfl) rfl
theorem q933 : (Jvm.Cond.unhidden "java/util/ArrayList" "toArray" "()[Ljava/lang/Object;") ∈ lw_tbl := lw_at lw_m4 164 rfl
theorem q934 : (Jvm.Cond.instanceMethod ({ cls := "java/util/ArrayList", name := "toArray", desc := "()[Ljava/lang/Object;" } : Jvm.MethodName)) ∈ lw_all := lw_g (lw_at lw_m4 165 rfl) rfl
theorem q935 : (Jvm.Cond.publicMethod ({ cls := "java/util/ArrayList", name := "toArray", desc := "()[Ljava/lang/Object;" } : Jvm.MethodName)) ∈ lw_tbl := lw_at lw_m4 166 rfl
theorem q936 : (Jvm.Cond.code ({ cls := "java/util/ArrayList", name := "toArray", desc := "()[Ljava/lang/Object;" } : Jvm.MethodName) prog_34_method_16_code (1 : Nat) (Option.some (Jvm.ClassFile.FieldType.array (Jvm.ClassFile.FieldType.object "java/lang/Object")))) ∈ lw_all := lw_g (lw_at lw_m4 167 rfl) rfl
theorem q937 : (Jvm.Cond.methodLink "java/util/ArrayList" (112 : Nat) ({ cls := "java/lang/System", name := "arraycopy", desc := "(Ljava/lang/Object;ILjava/lang/Object;II)V" } : Jvm.MethodName)) ∈ lw_all := lw_g (lw_at lw_m4 168 rfl) rfl
theorem q1502 : (Jvm.Cond.castable "java/util/ArrayList" "java/lang/Object") ∈ lw_tbl := lw_at lw_m7 13 rfl
theorem in_J2 : ∀ w ∈ wsJ20, w ∈ lw_all := lw_in wsJ20 [114, 110, 112] (by decide +kernel) (by decide +kernel)

/-! java/lang/Throwable -/
set_option maxRecDepth 100000
def RJ3 : String := "java/lang/Throwable"
def TJ3 : u_T := fun k => match k with
  | 0 => ("java/lang/Throwable", "cause", "Ljava/lang/Throwable;", false)
  | 1 => ("java/lang/Throwable", "stackTrace", "[Ljava/lang/StackTraceElement;", false)
  | 2 => ("java/lang/Throwable", "suppressedExceptions", "Ljava/util/List;", false)
  | 3 => ("java/lang/Throwable", "detailMessage", "Ljava/lang/String;", false)
  | _ => ("java/lang/Throwable", "backtrace", "Ljava/lang/Object;", false)
def tyJ3 : Nat → FieldType := fun k => match k with
  | 0 => .object "java/lang/Throwable"
  | 1 => .array (.object "java/lang/StackTraceElement")
  | 2 => .object "java/util/List"
  | 3 => .object "java/lang/String"
  | _ => .object "java/lang/Object"
abbrev wsJ30 : List Cond := u_ws RJ3 TJ3 5
theorem nmJ3 : ∀ a, a < 5 → ∀ b, b < 5 → a ≠ b → (TJ3 a).2.1 ≠ (TJ3 b).2.1 := by decide +kernel
theorem tyJ3_ok : ∀ k, k < 5 → parseFieldDescriptor (TJ3 k).2.2.1 = some (tyJ3 k) := by decide +kernel
abbrev cJ3_init : ByteArray := prog_31_method_2_code
def yJ3_init : MethodName := ⟨RJ3, "<init>", "(Ljava/lang/String;)V"⟩
def dkwJ3_init_1 : List UInt8 := [182, 0, 27, 87, 42, 43, 181, 0, 31, 177]
abbrev dktJ3_init_1 : List UInt8 := dkwJ3_init_1 ++ []
def dkwJ3_init_0 : List UInt8 := [42, 183, 0, 1, 42, 42, 181, 0, 7, 42, 178, 0, 13, 181, 0, 17, 42, 178, 0, 20, 181, 0, 24, 42]
abbrev dktJ3_init_0 : List UInt8 := dkwJ3_init_0 ++ dktJ3_init_1
theorem dksJ3_init_0 : cJ3_init.data.toList.drop 0 = dktJ3_init_0 := by decide +kernel
theorem dksJ3_init_1 : cJ3_init.data.toList.drop 24 = dktJ3_init_1 := dk_seg dksJ3_init_0 24 rfl rfl
theorem dJ3_init_0 : decode cJ3_init 0 = .ok (.aload_n 0, 1) := dk_42 (dk_at dksJ3_init_0 0 rfl rfl)
theorem dJ3_init_1 : decode cJ3_init 1 = .ok (.invokespecial 1, 3) := dk_183 0 1 (dk_at dksJ3_init_0 1 rfl rfl)
theorem dJ3_init_4 : decode cJ3_init 4 = .ok (.aload_n 0, 1) := dk_42 (dk_at dksJ3_init_0 4 rfl rfl)
theorem dJ3_init_5 : decode cJ3_init 5 = .ok (.aload_n 0, 1) := dk_42 (dk_at dksJ3_init_0 5 rfl rfl)
theorem dJ3_init_6 : decode cJ3_init 6 = .ok (.putfield 7, 3) := dk_181 0 7 (dk_at dksJ3_init_0 6 rfl rfl)
theorem dJ3_init_9 : decode cJ3_init 9 = .ok (.aload_n 0, 1) := dk_42 (dk_at dksJ3_init_0 9 rfl rfl)
theorem dJ3_init_10 : decode cJ3_init 10 = .ok (.getstatic 13, 3) := dk_178 0 13 (dk_at dksJ3_init_0 10 rfl rfl)
theorem dJ3_init_13 : decode cJ3_init 13 = .ok (.putfield 17, 3) := dk_181 0 17 (dk_at dksJ3_init_0 13 rfl rfl)
theorem dJ3_init_16 : decode cJ3_init 16 = .ok (.aload_n 0, 1) := dk_42 (dk_at dksJ3_init_0 16 rfl rfl)
theorem dJ3_init_17 : decode cJ3_init 17 = .ok (.getstatic 20, 3) := dk_178 0 20 (dk_at dksJ3_init_0 17 rfl rfl)
theorem dJ3_init_20 : decode cJ3_init 20 = .ok (.putfield 24, 3) := dk_181 0 24 (dk_at dksJ3_init_0 20 rfl rfl)
theorem dJ3_init_23 : decode cJ3_init 23 = .ok (.aload_n 0, 1) := dk_42 (dk_at dksJ3_init_0 23 rfl rfl)
theorem dJ3_init_24 : decode cJ3_init 24 = .ok (.invokevirtual 27, 3) := dk_182 0 27 (dk_at dksJ3_init_1 0 rfl rfl)
theorem dJ3_init_27 : decode cJ3_init 27 = .ok (.pop, 1) := dk_87 (dk_at dksJ3_init_1 3 rfl rfl)
theorem dJ3_init_28 : decode cJ3_init 28 = .ok (.aload_n 0, 1) := dk_42 (dk_at dksJ3_init_1 4 rfl rfl)
theorem dJ3_init_29 : decode cJ3_init 29 = .ok (.aload_n 1, 1) := dk_43 (dk_at dksJ3_init_1 5 rfl rfl)
theorem dJ3_init_30 : decode cJ3_init 30 = .ok (.putfield 31, 3) := dk_181 0 31 (dk_at dksJ3_init_1 6 rfl rfl)
theorem dJ3_init_33 : decode cJ3_init 33 = .ok (.return_, 1) := dk_177 (dk_at dksJ3_init_1 9 rfl rfl)
abbrev cJ3_init_2 : ByteArray := prog_31_method_1_code
def yJ3_init_2 : MethodName := ⟨RJ3, "<init>", "()V"⟩
def dkwJ3_init_2_1 : List UInt8 := [182, 0, 27, 87, 177]
abbrev dktJ3_init_2_1 : List UInt8 := dkwJ3_init_2_1 ++ []
def dkwJ3_init_2_0 : List UInt8 := [42, 183, 0, 1, 42, 42, 181, 0, 7, 42, 178, 0, 13, 181, 0, 17, 42, 178, 0, 20, 181, 0, 24, 42]
abbrev dktJ3_init_2_0 : List UInt8 := dkwJ3_init_2_0 ++ dktJ3_init_2_1
theorem dksJ3_init_2_0 : cJ3_init_2.data.toList.drop 0 = dktJ3_init_2_0 := by decide +kernel
theorem dksJ3_init_2_1 : cJ3_init_2.data.toList.drop 24 = dktJ3_init_2_1 := dk_seg dksJ3_init_2_0 24 rfl rfl
theorem dJ3_init_2_0 : decode cJ3_init_2 0 = .ok (.aload_n 0, 1) := dk_42 (dk_at dksJ3_init_2_0 0 rfl rfl)
theorem dJ3_init_2_1 : decode cJ3_init_2 1 = .ok (.invokespecial 1, 3) := dk_183 0 1 (dk_at dksJ3_init_2_0 1 rfl rfl)
theorem dJ3_init_2_4 : decode cJ3_init_2 4 = .ok (.aload_n 0, 1) := dk_42 (dk_at dksJ3_init_2_0 4 rfl rfl)
theorem dJ3_init_2_5 : decode cJ3_init_2 5 = .ok (.aload_n 0, 1) := dk_42 (dk_at dksJ3_init_2_0 5 rfl rfl)
theorem dJ3_init_2_6 : decode cJ3_init_2 6 = .ok (.putfield 7, 3) := dk_181 0 7 (dk_at dksJ3_init_2_0 6 rfl rfl)
theorem dJ3_init_2_9 : decode cJ3_init_2 9 = .ok (.aload_n 0, 1) := dk_42 (dk_at dksJ3_init_2_0 9 rfl rfl)
theorem dJ3_init_2_10 : decode cJ3_init_2 10 = .ok (.getstatic 13, 3) := dk_178 0 13 (dk_at dksJ3_init_2_0 10 rfl rfl)
theorem dJ3_init_2_13 : decode cJ3_init_2 13 = .ok (.putfield 17, 3) := dk_181 0 17 (dk_at dksJ3_init_2_0 13 rfl rfl)
theorem dJ3_init_2_16 : decode cJ3_init_2 16 = .ok (.aload_n 0, 1) := dk_42 (dk_at dksJ3_init_2_0 16 rfl rfl)
theorem dJ3_init_2_17 : decode cJ3_init_2 17 = .ok (.getstatic 20, 3) := dk_178 0 20 (dk_at dksJ3_init_2_0 17 rfl rfl)
theorem dJ3_init_2_20 : decode cJ3_init_2 20 = .ok (.putfield 24, 3) := dk_181 0 24 (dk_at dksJ3_init_2_0 20 rfl rfl)
theorem dJ3_init_2_23 : decode cJ3_init_2 23 = .ok (.aload_n 0, 1) := dk_42 (dk_at dksJ3_init_2_0 23 rfl rfl)
theorem dJ3_init_2_24 : decode cJ3_init_2 24 = .ok (.invokevirtual 27, 3) := dk_182 0 27 (dk_at dksJ3_init_2_1 0 rfl rfl)
theorem dJ3_init_2_27 : decode cJ3_init_2 27 = .ok (.pop, 1) := dk_87 (dk_at dksJ3_init_2_1 3 rfl rfl)
theorem dJ3_init_2_28 : decode cJ3_init_2 28 = .ok (.return_, 1) := dk_177 (dk_at dksJ3_init_2_1 4 rfl rfl)
theorem q58 : (Jvm.Cond.initialized "java/lang/Throwable") ∈ lw_all := lw_g (lw_at lw_m1 9 rfl) rfl
theorem q560 : (Jvm.Cond.instanceMethod ({ cls := "java/lang/Throwable", name := "<init>", desc := "(Ljava/lang/String;)V" } : Jvm.MethodName)) ∈ lw_all := lw_g (lw_at lw_m3 31 rfl) rfl
theorem q561 : (Jvm.Cond.code ({ cls := "java/lang/Throwable", name := "<init>", desc := "(Ljava/lang/String;)V" } : Jvm.MethodName) prog_31_method_2_code (2 : Nat) (Option.none : Option Jvm.ClassFile.FieldType)) ∈ lw_all := lw_g (lw_at lw_m3 32 rfl) rfl
theorem q562 : (Jvm.Cond.methodLink "java/lang/Throwable" (1 : Nat) ({ cls := "java/lang/Object", name := "<init>", desc := "()V" } : Jvm.MethodName)) ∈ lw_all := lw_g (lw_at lw_m3 33 rfl) rfl
theorem q563 : (Jvm.Cond.fieldLink "java/lang/Throwable" (13 : Nat) "java/lang/Throwable" "UNASSIGNED_STACK" "[Ljava/lang/StackTraceElement;") ∈ lw_all := lw_g (lw_at lw_m3 34 rfl) rfl
theorem q564 : (Jvm.Cond.laysStatic "java/lang/Throwable" "UNASSIGNED_STACK" "[Ljava/lang/StackTraceElement;") ∈ lw_tbl := lw_at lw_m3 35 rfl
theorem q565 : (Jvm.Cond.fieldLink "java/lang/Throwable" (20 : Nat) "java/lang/Throwable" "SUPPRESSED_SENTINEL" "Ljava/util/List;") ∈ lw_all := lw_g (lw_at lw_m3 36 rfl) rfl
theorem q566 : (Jvm.Cond.laysStatic "java/lang/Throwable" "SUPPRESSED_SENTINEL" "Ljava/util/List;") ∈ lw_tbl := lw_at lw_m3 37 rfl
theorem q567 : (Jvm.Cond.methodLink "java/lang/Throwable" (27 : Nat) ({ cls := "java/lang/Throwable", name := "fillInStackTrace", desc := "()Ljava/lang/Throwable;" } : Jvm.MethodName)) ∈ lw_all := lw_g (lw_at lw_m3 38 rfl) rfl
theorem q568 : (Jvm.Cond.instanceMethod ({ cls := "java/lang/Throwable", name := "fillInStackTrace", desc := "()Ljava/lang/Throwable;" } : Jvm.MethodName)) ∈ lw_all := lw_g (lw_at lw_m3 39 rfl) rfl
theorem q569 : (Jvm.Cond.sameMethod "java/lang/Throwable" "java/lang/Throwable" "fillInStackTrace" "()Ljava/lang/Throwable;") ∈ lw_all := lw_g (lw_at lw_m3 40 rfl) rfl
theorem q585 : (Jvm.Cond.declares ({ cls := "java/lang/Throwable", name := "fillInStackTrace", desc := "()Ljava/lang/Throwable;" } : Jvm.MethodName)) ∈ lw_tbl := lw_at lw_m3 56 rfl
theorem q589 : (Jvm.Cond.codeSync ({ cls := "java/lang/Throwable", name := "fillInStackTrace", desc := "()Ljava/lang/Throwable;" } : Jvm.MethodName) prog_31_method_18_code (1 : Nat) (Option.some (Jvm.ClassFile.FieldType.object "java/lang/Throwable"))) ∈ lw_all := lw_g (lw_at lw_m3 60 rfl) rfl
theorem q590 : (Jvm.Cond.methodLink "java/lang/Throwable" (202 : Nat) ({ cls := "java/lang/Throwable", name := "fillInStackTrace", desc := "(I)Ljava/lang/Throwable;" } : Jvm.MethodName)) ∈ lw_all := lw_g (lw_at lw_m3 61 rfl) rfl
theorem q591 : (Jvm.Cond.privateMethod ({ cls := "java/lang/Throwable", name := "fillInStackTrace", desc := "(I)Ljava/lang/Throwable;" } : Jvm.MethodName)) ∈ lw_tbl := lw_at lw_m3 62 rfl
theorem q592 : (Jvm.Cond.instanceMethod ({ cls := "java/lang/Throwable", name := "fillInStackTrace", desc := "(I)Ljava/lang/Throwable;" } : Jvm.MethodName)) ∈ lw_all := lw_g (lw_at lw_m3 63 rfl) rfl
theorem q593 : (Jvm.Cond.instantiable "java/lang/Throwable" (6 : Nat)) ∈ lw_all := lw_g (lw_at lw_m3 64 rfl) rfl
theorem q594 : (Jvm.Cond.native ({ cls := "java/lang/Throwable", name := "fillInStackTrace", desc := "(I)Ljava/lang/Throwable;" } : Jvm.MethodName)) ∈ lw_all := lw_g (lw_at lw_m3 65 rfl) rfl
theorem q595 : (Jvm.Cond.fieldLink "java/lang/Throwable" (198 : Nat) "java/lang/Throwable" "backtrace" "Ljava/lang/Object;") ∈ lw_all := lw_g (lw_at lw_m3 66 rfl) rfl
theorem q596 : (Jvm.Cond.fieldLink "java/lang/Throwable" (31 : Nat) "java/lang/Throwable" "detailMessage" "Ljava/lang/String;") ∈ lw_all := lw_g (lw_at lw_m3 67 rfl) rfl
theorem q597 : (Jvm.Cond.fieldLink "java/lang/Throwable" (7 : Nat) "java/lang/Throwable" "cause" "Ljava/lang/Throwable;") ∈ lw_all := lw_g (lw_at lw_m3 68 rfl) rfl
theorem q598 : (Jvm.Cond.fieldLink "java/lang/Throwable" (17 : Nat) "java/lang/Throwable" "stackTrace" "[Ljava/lang/StackTraceElement;") ∈ lw_all := lw_g (lw_at lw_m3 69 rfl) rfl
theorem q599 : (Jvm.Cond.fieldLink "java/lang/Throwable" (24 : Nat) "java/lang/Throwable" "suppressedExceptions" "Ljava/util/List;") ∈ lw_all := lw_g (lw_at lw_m3 70 rfl) rfl
theorem q601 : (Jvm.Cond.soleField "java/lang/Throwable" "backtrace") ∈ lw_all := lw_g (lw_at lw_m3 72 rfl) rfl
theorem q603 : (Jvm.Cond.soleField "java/lang/Throwable" "detailMessage") ∈ lw_all := lw_g (lw_at lw_m3 74 rfl) rfl
theorem q605 : (Jvm.Cond.soleField "java/lang/Throwable" "cause") ∈ lw_all := lw_g (lw_at lw_m3 76 rfl) rfl
theorem q607 : (Jvm.Cond.soleField "java/lang/Throwable" "stackTrace") ∈ lw_all := lw_g (lw_at lw_m3 78 rfl) rfl
theorem q609 : (Jvm.Cond.soleField "java/lang/Throwable" "depth") ∈ lw_all := lw_g (lw_at lw_m3 80 rfl) rfl
theorem q611 : (Jvm.Cond.soleField "java/lang/Throwable" "suppressedExceptions") ∈ lw_all := lw_g (lw_at lw_m3 82 rfl) rfl
theorem q618 : (Jvm.Cond.declares ({ cls := "java/lang/Throwable", name := "<init>", desc := "()V" } : Jvm.MethodName)) ∈ lw_tbl := lw_at lw_m3 89 rfl
theorem q619 : (Jvm.Cond.declares ({ cls := "java/lang/Throwable", name := "<init>", desc := "(Ljava/lang/String;)V" } : Jvm.MethodName)) ∈ lw_tbl := lw_at lw_m3 90 rfl
theorem q621 : (Jvm.Cond.lays "java/lang/Throwable" "java/lang/Throwable" "cause" "Ljava/lang/Throwable;") ∈ lw_all := lw_g (lw_at lw_m3 92 rfl) rfl
theorem q622 : (Jvm.Cond.lays "java/lang/Throwable" "java/lang/Throwable" "stackTrace" "[Ljava/lang/StackTraceElement;") ∈ lw_all := lw_g (lw_at lw_m3 93 rfl) rfl
theorem q623 : (Jvm.Cond.lays "java/lang/Throwable" "java/lang/Throwable" "suppressedExceptions" "Ljava/util/List;") ∈ lw_all := lw_g (lw_at lw_m3 94 rfl) rfl
theorem q624 : (Jvm.Cond.lays "java/lang/Throwable" "java/lang/Throwable" "detailMessage" "Ljava/lang/String;") ∈ lw_all := lw_g (lw_at lw_m3 95 rfl) rfl
theorem q625 : (Jvm.Cond.lays "java/lang/Throwable" "java/lang/Throwable" "backtrace" "Ljava/lang/Object;") ∈ lw_all := lw_g (lw_at lw_m3 96 rfl) rfl
theorem q626 : (Jvm.Cond.fieldLink "java/lang/Throwable" (198 : Nat) "java/lang/Throwable" "backtrace" "Ljava/lang/Object;") ∈ lw_all := lw_g (lw_at lw_m3 97 rfl) rfl
theorem q627 : (Jvm.Cond.superclass "java/lang/Throwable" "java/lang/Object") ∈ lw_all := lw_g (lw_at lw_m3 98 rfl) rfl
theorem q628 : (Jvm.Cond.instanceMethod ({ cls := "java/lang/Throwable", name := "<init>", desc := "()V" } : Jvm.MethodName)) ∈ lw_all := lw_g (lw_at lw_m3 99 rfl) rfl
theorem q629 : (Jvm.Cond.code ({ cls := "java/lang/Throwable", name := "<init>", desc := "()V" } : Jvm.MethodName) prog_31_method_1_code (1 : Nat) (Option.none : Option Jvm.ClassFile.FieldType)) ∈ lw_all := lw_g (lw_at lw_m3 100 rfl) rfl
theorem q1490 : (Jvm.Cond.sameMethod "java/lang/Throwable" "java/lang/Throwable" "fillInStackTrace" "(I)Ljava/lang/Throwable;") ∈ lw_all := lw_g (lw_at lw_m7 1 rfl) rfl
theorem q1519 : (Jvm.Cond.castable "java/lang/Throwable" "java/lang/Object") ∈ lw_tbl := lw_at lw_m7 30 rfl
theorem in_J3 : ∀ w ∈ wsJ30, w ∈ lw_all := lw_in wsJ30 [621, 622, 623, 624, 625] (by decide +kernel) (by decide +kernel)

/-! java/lang/Exception -/
set_option maxRecDepth 100000
def RJ4 : String := "java/lang/Exception"
abbrev cJ4_init : ByteArray := prog_22_method_2_code
def yJ4_init : MethodName := ⟨RJ4, "<init>", "(Ljava/lang/String;)V"⟩
def dkwJ4_init_0 : List UInt8 := [42, 43, 183, 0, 7, 177]
abbrev dktJ4_init_0 : List UInt8 := dkwJ4_init_0 ++ []
theorem dksJ4_init_0 : cJ4_init.data.toList.drop 0 = dktJ4_init_0 := by decide +kernel
theorem dJ4_init_0 : decode cJ4_init 0 = .ok (.aload_n 0, 1) := dk_42 (dk_at dksJ4_init_0 0 rfl rfl)
theorem dJ4_init_1 : decode cJ4_init 1 = .ok (.aload_n 1, 1) := dk_43 (dk_at dksJ4_init_0 1 rfl rfl)
theorem dJ4_init_2 : decode cJ4_init 2 = .ok (.invokespecial 7, 3) := dk_183 0 7 (dk_at dksJ4_init_0 2 rfl rfl)
theorem dJ4_init_5 : decode cJ4_init 5 = .ok (.return_, 1) := dk_177 (dk_at dksJ4_init_0 5 rfl rfl)
abbrev cJ4_init_2 : ByteArray := prog_22_method_1_code
def yJ4_init_2 : MethodName := ⟨RJ4, "<init>", "()V"⟩
theorem dJ4_init_2_0 : decode cJ4_init_2 0 = .ok (.aload_n 0, 1) := by decide +kernel
theorem dJ4_init_2_1 : decode cJ4_init_2 1 = .ok (.invokespecial 1, 3) := by decide +kernel
theorem dJ4_init_2_4 : decode cJ4_init_2 4 = .ok (.return_, 1) := by decide +kernel
theorem q59 : (Jvm.Cond.initialized "java/lang/Exception") ∈ lw_all := lw_g (lw_at lw_m1 10 rfl) rfl
theorem q557 : (Jvm.Cond.instanceMethod ({ cls := "java/lang/Exception", name := "<init>", desc := "(Ljava/lang/String;)V" } : Jvm.MethodName)) ∈ lw_all := lw_g (lw_at lw_m3 28 rfl) rfl
theorem q558 : (Jvm.Cond.code ({ cls := "java/lang/Exception", name := "<init>", desc := "(Ljava/lang/String;)V" } : Jvm.MethodName) prog_22_method_2_code (2 : Nat) (Option.none : Option Jvm.ClassFile.FieldType)) ∈ lw_all := lw_g (lw_at lw_m3 29 rfl) rfl
theorem q559 : (Jvm.Cond.methodLink "java/lang/Exception" (7 : Nat) ({ cls := "java/lang/Throwable", name := "<init>", desc := "(Ljava/lang/String;)V" } : Jvm.MethodName)) ∈ lw_all := lw_g (lw_at lw_m3 30 rfl) rfl
theorem q588 : (Jvm.Cond.superclass "java/lang/Exception" "java/lang/Throwable") ∈ lw_all := lw_g (lw_at lw_m3 59 rfl) rfl
theorem q616 : (Jvm.Cond.declares ({ cls := "java/lang/Exception", name := "<init>", desc := "()V" } : Jvm.MethodName)) ∈ lw_tbl := lw_at lw_m3 87 rfl
theorem q617 : (Jvm.Cond.declares ({ cls := "java/lang/Exception", name := "<init>", desc := "(Ljava/lang/String;)V" } : Jvm.MethodName)) ∈ lw_tbl := lw_at lw_m3 88 rfl
theorem q677 : (Jvm.Cond.instanceMethod ({ cls := "java/lang/Exception", name := "<init>", desc := "()V" } : Jvm.MethodName)) ∈ lw_all := lw_g (lw_at lw_m3 148 rfl) rfl
theorem q678 : (Jvm.Cond.code ({ cls := "java/lang/Exception", name := "<init>", desc := "()V" } : Jvm.MethodName) prog_22_method_1_code (1 : Nat) (Option.none : Option Jvm.ClassFile.FieldType)) ∈ lw_all := lw_g (lw_at lw_m3 149 rfl) rfl
theorem q679 : (Jvm.Cond.methodLink "java/lang/Exception" (1 : Nat) ({ cls := "java/lang/Throwable", name := "<init>", desc := "()V" } : Jvm.MethodName)) ∈ lw_all := lw_g (lw_at lw_m3 150 rfl) rfl

/-! java/lang/RuntimeException -/
set_option maxRecDepth 100000
def RJ5 : String := "java/lang/RuntimeException"
abbrev cJ5_init : ByteArray := prog_28_method_2_code
def yJ5_init : MethodName := ⟨RJ5, "<init>", "(Ljava/lang/String;)V"⟩
def dkwJ5_init_0 : List UInt8 := [42, 43, 183, 0, 7, 177]
abbrev dktJ5_init_0 : List UInt8 := dkwJ5_init_0 ++ []
theorem dksJ5_init_0 : cJ5_init.data.toList.drop 0 = dktJ5_init_0 := by decide +kernel
theorem dJ5_init_0 : decode cJ5_init 0 = .ok (.aload_n 0, 1) := dk_42 (dk_at dksJ5_init_0 0 rfl rfl)
theorem dJ5_init_1 : decode cJ5_init 1 = .ok (.aload_n 1, 1) := dk_43 (dk_at dksJ5_init_0 1 rfl rfl)
theorem dJ5_init_2 : decode cJ5_init 2 = .ok (.invokespecial 7, 3) := dk_183 0 7 (dk_at dksJ5_init_0 2 rfl rfl)
theorem dJ5_init_5 : decode cJ5_init 5 = .ok (.return_, 1) := dk_177 (dk_at dksJ5_init_0 5 rfl rfl)
abbrev cJ5_init_2 : ByteArray := prog_28_method_1_code
def yJ5_init_2 : MethodName := ⟨RJ5, "<init>", "()V"⟩
theorem dJ5_init_2_0 : decode cJ5_init_2 0 = .ok (.aload_n 0, 1) := by decide +kernel
theorem dJ5_init_2_1 : decode cJ5_init_2 1 = .ok (.invokespecial 1, 3) := by decide +kernel
theorem dJ5_init_2_4 : decode cJ5_init_2 4 = .ok (.return_, 1) := by decide +kernel
theorem q60 : (Jvm.Cond.initialized "java/lang/RuntimeException") ∈ lw_all := lw_g (lw_at lw_m1 11 rfl) rfl
theorem q554 : (Jvm.Cond.instanceMethod ({ cls := "java/lang/RuntimeException", name := "<init>", desc := "(Ljava/lang/String;)V" } : Jvm.MethodName)) ∈ lw_all := lw_g (lw_at lw_m3 25 rfl) rfl
theorem q555 : (Jvm.Cond.code ({ cls := "java/lang/RuntimeException", name := "<init>", desc := "(Ljava/lang/String;)V" } : Jvm.MethodName) prog_28_method_2_code (2 : Nat) (Option.none : Option Jvm.ClassFile.FieldType)) ∈ lw_all := lw_g (lw_at lw_m3 26 rfl) rfl
theorem q556 : (Jvm.Cond.methodLink "java/lang/RuntimeException" (7 : Nat) ({ cls := "java/lang/Exception", name := "<init>", desc := "(Ljava/lang/String;)V" } : Jvm.MethodName)) ∈ lw_all := lw_g (lw_at lw_m3 27 rfl) rfl
theorem q584 : (Jvm.Cond.sameMethod "java/lang/RuntimeException" "java/lang/Throwable" "fillInStackTrace" "()Ljava/lang/Throwable;") ∈ lw_all := lw_g (lw_at lw_m3 55 rfl) rfl
theorem q587 : (Jvm.Cond.superclass "java/lang/RuntimeException" "java/lang/Exception") ∈ lw_all := lw_g (lw_at lw_m3 58 rfl) rfl
theorem q614 : (Jvm.Cond.declares ({ cls := "java/lang/RuntimeException", name := "<init>", desc := "()V" } : Jvm.MethodName)) ∈ lw_tbl := lw_at lw_m3 85 rfl
theorem q615 : (Jvm.Cond.declares ({ cls := "java/lang/RuntimeException", name := "<init>", desc := "(Ljava/lang/String;)V" } : Jvm.MethodName)) ∈ lw_tbl := lw_at lw_m3 86 rfl
theorem q674 : (Jvm.Cond.instanceMethod ({ cls := "java/lang/RuntimeException", name := "<init>", desc := "()V" } : Jvm.MethodName)) ∈ lw_all := lw_g (lw_at lw_m3 145 rfl) rfl
theorem q675 : (Jvm.Cond.code ({ cls := "java/lang/RuntimeException", name := "<init>", desc := "()V" } : Jvm.MethodName) prog_28_method_1_code (1 : Nat) (Option.none : Option Jvm.ClassFile.FieldType)) ∈ lw_all := lw_g (lw_at lw_m3 146 rfl) rfl
theorem q676 : (Jvm.Cond.methodLink "java/lang/RuntimeException" (1 : Nat) ({ cls := "java/lang/Exception", name := "<init>", desc := "()V" } : Jvm.MethodName)) ∈ lw_all := lw_g (lw_at lw_m3 147 rfl) rfl
theorem q694 : (Jvm.Cond.castable "java/lang/RuntimeException" "java/lang/Throwable") ∈ lw_tbl := lw_at lw_m3 165 rfl

/-! java/lang/NullPointerException -/
set_option maxRecDepth 100000
def RJ6 : String := "java/lang/NullPointerException"
def TJ6 : u_T := fun k => match k with
  | 0 => ("java/lang/Throwable", "backtrace", "Ljava/lang/Object;", false)
  | 1 => ("java/lang/Throwable", "detailMessage", "Ljava/lang/String;", false)
  | 2 => ("java/lang/Throwable", "cause", "Ljava/lang/Throwable;", false)
  | 3 => ("java/lang/Throwable", "stackTrace", "[Ljava/lang/StackTraceElement;", false)
  | 4 => ("java/lang/Throwable", "depth", "I", false)
  | 5 => ("java/lang/Throwable", "suppressedExceptions", "Ljava/util/List;", false)
  | 6 => ("java/lang/NullPointerException", "extendedMessageState", "I", false)
  | _ => ("java/lang/NullPointerException", "extendedMessage", "Ljava/lang/String;", false)
def tyJ6 : Nat → FieldType := fun k => match k with
  | 0 => .object "java/lang/Object"
  | 1 => .object "java/lang/String"
  | 2 => .object "java/lang/Throwable"
  | 3 => .array (.object "java/lang/StackTraceElement")
  | 4 => .int
  | 5 => .object "java/util/List"
  | 6 => .int
  | _ => .object "java/lang/String"
abbrev wsJ60 : List Cond := u_ws RJ6 TJ6 8
theorem nmJ6 : ∀ a, a < 8 → ∀ b, b < 8 → a ≠ b → (TJ6 a).2.1 ≠ (TJ6 b).2.1 := by decide +kernel
theorem tyJ6_ok : ∀ k, k < 8 → parseFieldDescriptor (TJ6 k).2.2.1 = some (tyJ6 k) := by decide +kernel
abbrev cJ6_init : ByteArray := prog_27_method_1_code
def yJ6_init : MethodName := ⟨RJ6, "<init>", "()V"⟩
theorem dJ6_init_0 : decode cJ6_init 0 = .ok (.aload_n 0, 1) := by decide +kernel
theorem dJ6_init_1 : decode cJ6_init 1 = .ok (.invokespecial 1, 3) := by decide +kernel
theorem dJ6_init_4 : decode cJ6_init 4 = .ok (.return_, 1) := by decide +kernel
theorem q61 : (Jvm.Cond.initialized "java/lang/NullPointerException") ∈ lw_all := lw_g (lw_at lw_m1 12 rfl) rfl
theorem q384 : (Jvm.Cond.selects "java/lang/NullPointerException" ({ cls := "java/lang/Object", name := "getClass", desc := "()Ljava/lang/Class;" } : Jvm.MethodName) ({ cls := "java/lang/Object", name := "getClass", desc := "()Ljava/lang/Class;" } : Jvm.MethodName)) ∈ lw_all := lw_g (lw_at lw_m2 95 rfl) rfl
theorem q575 : (Jvm.Cond.selects "java/lang/NullPointerException" ({ cls := "java/lang/Throwable", name := "fillInStackTrace", desc := "()Ljava/lang/Throwable;" } : Jvm.MethodName) ({ cls := "java/lang/NullPointerException", name := "fillInStackTrace", desc := "()Ljava/lang/Throwable;" } : Jvm.MethodName)) ∈ lw_all := lw_g (lw_at lw_m3 46 rfl) rfl
theorem q576 : (Jvm.Cond.instanceMethod ({ cls := "java/lang/NullPointerException", name := "fillInStackTrace", desc := "()Ljava/lang/Throwable;" } : Jvm.MethodName)) ∈ lw_all := lw_g (lw_at lw_m3 47 rfl) rfl
theorem q577 : (Jvm.Cond.codeSync ({ cls := "java/lang/NullPointerException", name := "fillInStackTrace", desc := "()Ljava/lang/Throwable;" } : Jvm.MethodName) prog_27_method_3_code (1 : Nat) (Option.some (Jvm.ClassFile.FieldType.object "java/lang/Throwable"))) ∈ lw_all := lw_g (lw_at lw_m3 48 rfl) rfl
theorem q578 : (Jvm.Cond.methodLink "java/lang/NullPointerException" (16 : Nat) ({ cls := "java/lang/NullPointerException", name := "getExtendedNPEMessage", desc := "()Ljava/lang/String;" } : Jvm.MethodName)) ∈ lw_all := lw_g (lw_at lw_m3 49 rfl) rfl
theorem q579 : (Jvm.Cond.privateMethod ({ cls := "java/lang/NullPointerException", name := "getExtendedNPEMessage", desc := "()Ljava/lang/String;" } : Jvm.MethodName)) ∈ lw_tbl := lw_at lw_m3 50 rfl
theorem q580 : (Jvm.Cond.instanceMethod ({ cls := "java/lang/NullPointerException", name := "getExtendedNPEMessage", desc := "()Ljava/lang/String;" } : Jvm.MethodName)) ∈ lw_all := lw_g (lw_at lw_m3 51 rfl) rfl
theorem q581 : (Jvm.Cond.instantiable "java/lang/NullPointerException" (8 : Nat)) ∈ lw_all := lw_g (lw_at lw_m3 52 rfl) rfl
theorem q582 : (Jvm.Cond.native ({ cls := "java/lang/NullPointerException", name := "getExtendedNPEMessage", desc := "()Ljava/lang/String;" } : Jvm.MethodName)) ∈ lw_all := lw_g (lw_at lw_m3 53 rfl) rfl
theorem q583 : (Jvm.Cond.methodLink "java/lang/NullPointerException" (24 : Nat) ({ cls := "java/lang/RuntimeException", name := "fillInStackTrace", desc := "()Ljava/lang/Throwable;" } : Jvm.MethodName)) ∈ lw_all := lw_g (lw_at lw_m3 54 rfl) rfl
theorem q586 : (Jvm.Cond.superclass "java/lang/NullPointerException" "java/lang/RuntimeException") ∈ lw_all := lw_g (lw_at lw_m3 57 rfl) rfl
theorem q671 : (Jvm.Cond.instanceMethod ({ cls := "java/lang/NullPointerException", name := "<init>", desc := "()V" } : Jvm.MethodName)) ∈ lw_all := lw_g (lw_at lw_m3 142 rfl) rfl
theorem q672 : (Jvm.Cond.code ({ cls := "java/lang/NullPointerException", name := "<init>", desc := "()V" } : Jvm.MethodName) prog_27_method_1_code (1 : Nat) (Option.none : Option Jvm.ClassFile.FieldType)) ∈ lw_all := lw_g (lw_at lw_m3 143 rfl) rfl
theorem q673 : (Jvm.Cond.methodLink "java/lang/NullPointerException" (1 : Nat) ({ cls := "java/lang/RuntimeException", name := "<init>", desc := "()V" } : Jvm.MethodName)) ∈ lw_all := lw_g (lw_at lw_m3 144 rfl) rfl
theorem q680 : (Jvm.Cond.fieldLink "java/lang/NullPointerException" (10 : Nat) "java/lang/NullPointerException" "extendedMessageState" "I") ∈ lw_all := lw_g (lw_at lw_m3 151 rfl) rfl
theorem q681 : (Jvm.Cond.fieldLink "java/lang/NullPointerException" (20 : Nat) "java/lang/NullPointerException" "extendedMessage" "Ljava/lang/String;") ∈ lw_all := lw_g (lw_at lw_m3 152 rfl) rfl
theorem q682 : (Jvm.Cond.lays "java/lang/NullPointerException" "java/lang/NullPointerException" "extendedMessageState" "I") ∈ lw_all := lw_g (lw_at lw_m3 153 rfl) rfl
theorem q683 : (Jvm.Cond.soleField "java/lang/NullPointerException" "extendedMessageState") ∈ lw_all := lw_g (lw_at lw_m3 154 rfl) rfl
theorem q684 : (Jvm.Cond.lays "java/lang/NullPointerException" "java/lang/NullPointerException" "extendedMessage" "Ljava/lang/String;") ∈ lw_all := lw_g (lw_at lw_m3 155 rfl) rfl
theorem q685 : (Jvm.Cond.soleField "java/lang/NullPointerException" "extendedMessage") ∈ lw_all := lw_g (lw_at lw_m3 156 rfl) rfl
theorem q686 : (Jvm.Cond.lays "java/lang/NullPointerException" "java/lang/Throwable" "backtrace" "Ljava/lang/Object;") ∈ lw_all := lw_g (lw_at lw_m3 157 rfl) rfl
theorem q687 : (Jvm.Cond.lays "java/lang/NullPointerException" "java/lang/Throwable" "detailMessage" "Ljava/lang/String;") ∈ lw_all := lw_g (lw_at lw_m3 158 rfl) rfl
theorem q688 : (Jvm.Cond.lays "java/lang/NullPointerException" "java/lang/Throwable" "cause" "Ljava/lang/Throwable;") ∈ lw_all := lw_g (lw_at lw_m3 159 rfl) rfl
theorem q689 : (Jvm.Cond.lays "java/lang/NullPointerException" "java/lang/Throwable" "stackTrace" "[Ljava/lang/StackTraceElement;") ∈ lw_all := lw_g (lw_at lw_m3 160 rfl) rfl
theorem q690 : (Jvm.Cond.lays "java/lang/NullPointerException" "java/lang/Throwable" "depth" "I") ∈ lw_all := lw_g (lw_at lw_m3 161 rfl) rfl
theorem q691 : (Jvm.Cond.lays "java/lang/NullPointerException" "java/lang/Throwable" "suppressedExceptions" "Ljava/util/List;") ∈ lw_all := lw_g (lw_at lw_m3 162 rfl) rfl
theorem q692 : (Jvm.Cond.castable "java/lang/NullPointerException" "java/lang/NullPointerException") ∈ lw_tbl := lw_at lw_m3 163 rfl
theorem q693 : (Jvm.Cond.selects "java/lang/NullPointerException" ({ cls := "java/lang/Throwable", name := "fillInStackTrace", desc := "(I)Ljava/lang/Throwable;" } : Jvm.MethodName) ({ cls := "java/lang/Throwable", name := "fillInStackTrace", desc := "(I)Ljava/lang/Throwable;" } : Jvm.MethodName)) ∈ lw_all := lw_g (lw_at lw_m3 164 rfl) rfl
theorem q1505 : (Jvm.Cond.castable "java/lang/NullPointerException" "java/lang/Object") ∈ lw_tbl := lw_at lw_m7 16 rfl
theorem in_J6 : ∀ w ∈ wsJ60, w ∈ lw_all := lw_in wsJ60 [686, 687, 688, 689, 690, 691, 682, 684] (by decide +kernel) (by decide +kernel)

/-! java/lang/ClassCastException -/
set_option maxRecDepth 100000
def RJ7 : String := "java/lang/ClassCastException"
def TJ7 : u_T := fun k => match k with
  | 0 => ("java/lang/Throwable", "backtrace", "Ljava/lang/Object;", false)
  | 1 => ("java/lang/Throwable", "detailMessage", "Ljava/lang/String;", false)
  | 2 => ("java/lang/Throwable", "cause", "Ljava/lang/Throwable;", false)
  | 3 => ("java/lang/Throwable", "stackTrace", "[Ljava/lang/StackTraceElement;", false)
  | 4 => ("java/lang/Throwable", "depth", "I", false)
  | _ => ("java/lang/Throwable", "suppressedExceptions", "Ljava/util/List;", false)
def tyJ7 : Nat → FieldType := fun k => match k with
  | 0 => .object "java/lang/Object"
  | 1 => .object "java/lang/String"
  | 2 => .object "java/lang/Throwable"
  | 3 => .array (.object "java/lang/StackTraceElement")
  | 4 => .int
  | _ => .object "java/util/List"
abbrev wsJ70 : List Cond := u_ws RJ7 TJ7 6
theorem nmJ7 : ∀ a, a < 6 → ∀ b, b < 6 → a ≠ b → (TJ7 a).2.1 ≠ (TJ7 b).2.1 := by decide +kernel
theorem tyJ7_ok : ∀ k, k < 6 → parseFieldDescriptor (TJ7 k).2.2.1 = some (tyJ7 k) := by decide +kernel
abbrev cJ7_init : ByteArray := prog_20_method_2_code
def yJ7_init : MethodName := ⟨RJ7, "<init>", "(Ljava/lang/String;)V"⟩
def dkwJ7_init_0 : List UInt8 := [42, 43, 183, 0, 7, 177]
abbrev dktJ7_init_0 : List UInt8 := dkwJ7_init_0 ++ []
theorem dksJ7_init_0 : cJ7_init.data.toList.drop 0 = dktJ7_init_0 := by decide +kernel
theorem dJ7_init_0 : decode cJ7_init 0 = .ok (.aload_n 0, 1) := dk_42 (dk_at dksJ7_init_0 0 rfl rfl)
theorem dJ7_init_1 : decode cJ7_init 1 = .ok (.aload_n 1, 1) := dk_43 (dk_at dksJ7_init_0 1 rfl rfl)
theorem dJ7_init_2 : decode cJ7_init 2 = .ok (.invokespecial 7, 3) := dk_183 0 7 (dk_at dksJ7_init_0 2 rfl rfl)
theorem dJ7_init_5 : decode cJ7_init 5 = .ok (.return_, 1) := dk_177 (dk_at dksJ7_init_0 5 rfl rfl)
theorem q62 : (Jvm.Cond.initialized "java/lang/ClassCastException") ∈ lw_all := lw_g (lw_at lw_m1 13 rfl) rfl
theorem q381 : (Jvm.Cond.selects "java/lang/ClassCastException" ({ cls := "java/lang/Object", name := "getClass", desc := "()Ljava/lang/Class;" } : Jvm.MethodName) ({ cls := "java/lang/Object", name := "getClass", desc := "()Ljava/lang/Class;" } : Jvm.MethodName)) ∈ lw_all := lw_g (lw_at lw_m2 92 rfl) rfl
theorem q572 : (Jvm.Cond.selects "java/lang/ClassCastException" ({ cls := "java/lang/Throwable", name := "fillInStackTrace", desc := "()Ljava/lang/Throwable;" } : Jvm.MethodName) ({ cls := "java/lang/Throwable", name := "fillInStackTrace", desc := "()Ljava/lang/Throwable;" } : Jvm.MethodName)) ∈ lw_all := lw_g (lw_at lw_m3 43 rfl) rfl
theorem q725 : (Jvm.Cond.instantiable "java/lang/ClassCastException" (6 : Nat)) ∈ lw_all := lw_g (lw_at lw_m3 196 rfl) rfl
theorem q726 : (Jvm.Cond.instanceMethod ({ cls := "java/lang/ClassCastException", name := "<init>", desc := "(Ljava/lang/String;)V" } : Jvm.MethodName)) ∈ lw_all := lw_g (lw_at lw_m3 197 rfl) rfl
theorem q727 : (Jvm.Cond.code ({ cls := "java/lang/ClassCastException", name := "<init>", desc := "(Ljava/lang/String;)V" } : Jvm.MethodName) prog_20_method_2_code (2 : Nat) (Option.none : Option Jvm.ClassFile.FieldType)) ∈ lw_all := lw_g (lw_at lw_m3 198 rfl) rfl
theorem q728 : (Jvm.Cond.methodLink "java/lang/ClassCastException" (7 : Nat) ({ cls := "java/lang/RuntimeException", name := "<init>", desc := "(Ljava/lang/String;)V" } : Jvm.MethodName)) ∈ lw_all := lw_g (lw_at lw_m3 199 rfl) rfl
theorem q729 : (Jvm.Cond.lays "java/lang/ClassCastException" "java/lang/Throwable" "backtrace" "Ljava/lang/Object;") ∈ lw_all := lw_g (lw_at lw_m3 200 rfl) rfl
theorem q730 : (Jvm.Cond.lays "java/lang/ClassCastException" "java/lang/Throwable" "detailMessage" "Ljava/lang/String;") ∈ lw_all := lw_g (lw_at lw_m3 201 rfl) rfl
theorem q731 : (Jvm.Cond.lays "java/lang/ClassCastException" "java/lang/Throwable" "cause" "Ljava/lang/Throwable;") ∈ lw_all := lw_g (lw_at lw_m3 202 rfl) rfl
theorem q732 : (Jvm.Cond.lays "java/lang/ClassCastException" "java/lang/Throwable" "stackTrace" "[Ljava/lang/StackTraceElement;") ∈ lw_all := lw_g (lw_at lw_m3 203 rfl) rfl
theorem q733 : (Jvm.Cond.lays "java/lang/ClassCastException" "java/lang/Throwable" "depth" "I") ∈ lw_all := lw_g (lw_at lw_m3 204 rfl) rfl
theorem q734 : (Jvm.Cond.lays "java/lang/ClassCastException" "java/lang/Throwable" "suppressedExceptions" "Ljava/util/List;") ∈ lw_all := lw_g (lw_at lw_m3 205 rfl) rfl
theorem q735 : (Jvm.Cond.superclass "java/lang/ClassCastException" "java/lang/RuntimeException") ∈ lw_all := lw_g (lw_at lw_m3 206 rfl) rfl
theorem q736 : (Jvm.Cond.castable "java/lang/ClassCastException" "java/lang/ClassCastException") ∈ lw_tbl := lw_at lw_m3 207 rfl
theorem q737 : (Jvm.Cond.selects "java/lang/ClassCastException" ({ cls := "java/lang/Throwable", name := "fillInStackTrace", desc := "(I)Ljava/lang/Throwable;" } : Jvm.MethodName) ({ cls := "java/lang/Throwable", name := "fillInStackTrace", desc := "(I)Ljava/lang/Throwable;" } : Jvm.MethodName)) ∈ lw_all := lw_g (lw_at lw_m3 208 rfl) rfl
theorem q1506 : (Jvm.Cond.castable "java/lang/ClassCastException" "java/lang/Object") ∈ lw_tbl := lw_at lw_m7 17 rfl
theorem in_J7 : ∀ w ∈ wsJ70, w ∈ lw_all := lw_in wsJ70 [729, 730, 731, 732, 733, 734] (by decide +kernel) (by decide +kernel)

/-! java/lang/String -/
set_option maxRecDepth 100000
def RJ8 : String := "java/lang/String"
def TJ8 : u_T := fun k => match k with
  | 0 => ("java/lang/String", "value", "[B", true)
  | _ => ("java/lang/String", "coder", "B", true)
def tyJ8 : Nat → FieldType := fun k => match k with
  | 0 => .array .byte
  | _ => .byte
abbrev wsJ80 : List Cond := u_ws RJ8 TJ8 2
theorem nmJ8 : ∀ a, a < 2 → ∀ b, b < 2 → a ≠ b → (TJ8 a).2.1 ≠ (TJ8 b).2.1 := by decide +kernel
theorem tyJ8_ok : ∀ k, k < 2 → parseFieldDescriptor (TJ8 k).2.2.1 = some (tyJ8 k) := by decide +kernel
theorem q63 : (Jvm.Cond.initialized "java/lang/String") ∈ lw_all := lw_g (lw_at lw_m1 14 rfl) rfl
theorem q630 : (Jvm.Cond.instantiable "java/lang/String" (4 : Nat)) ∈ lw_all := lw_g (lw_at lw_m3 101 rfl) rfl
theorem q632 : (Jvm.Cond.laysFinal "java/lang/String" "java/lang/String" "value" "[B") ∈ lw_all := lw_g (lw_at lw_m3 103 rfl) rfl
theorem q633 : (Jvm.Cond.soleField "java/lang/String" "value") ∈ lw_all := lw_g (lw_at lw_m3 104 rfl) rfl
theorem q634 : (Jvm.Cond.laysFinal "java/lang/String" "java/lang/String" "coder" "B") ∈ lw_all := lw_g (lw_at lw_m3 105 rfl) rfl
theorem q635 : (Jvm.Cond.soleField "java/lang/String" "coder") ∈ lw_all := lw_g (lw_at lw_m3 106 rfl) rfl
theorem q1520 : (Jvm.Cond.castable "java/lang/String" "java/lang/Object") ∈ lw_tbl := lw_at lw_m7 31 rfl
theorem in_J8 : ∀ w ∈ wsJ80, w ∈ lw_all := lw_in wsJ80 [632, 634] (by decide +kernel) (by decide +kernel)

/-! java/lang/ArrayStoreException -/
set_option maxRecDepth 100000
def RJ9 : String := "java/lang/ArrayStoreException"
def TJ9 : u_T := fun k => match k with
  | 0 => ("java/lang/Throwable", "backtrace", "Ljava/lang/Object;", false)
  | 1 => ("java/lang/Throwable", "detailMessage", "Ljava/lang/String;", false)
  | 2 => ("java/lang/Throwable", "cause", "Ljava/lang/Throwable;", false)
  | 3 => ("java/lang/Throwable", "stackTrace", "[Ljava/lang/StackTraceElement;", false)
  | 4 => ("java/lang/Throwable", "depth", "I", false)
  | _ => ("java/lang/Throwable", "suppressedExceptions", "Ljava/util/List;", false)
def tyJ9 : Nat → FieldType := fun k => match k with
  | 0 => .object "java/lang/Object"
  | 1 => .object "java/lang/String"
  | 2 => .object "java/lang/Throwable"
  | 3 => .array (.object "java/lang/StackTraceElement")
  | 4 => .int
  | _ => .object "java/util/List"
abbrev wsJ90 : List Cond := u_ws RJ9 TJ9 6
theorem nmJ9 : ∀ a, a < 6 → ∀ b, b < 6 → a ≠ b → (TJ9 a).2.1 ≠ (TJ9 b).2.1 := by decide +kernel
theorem tyJ9_ok : ∀ k, k < 6 → parseFieldDescriptor (TJ9 k).2.2.1 = some (tyJ9 k) := by decide +kernel
abbrev cJ9_init : ByteArray := prog_19_method_2_code
def yJ9_init : MethodName := ⟨RJ9, "<init>", "(Ljava/lang/String;)V"⟩
def dkwJ9_init_0 : List UInt8 := [42, 43, 183, 0, 7, 177]
abbrev dktJ9_init_0 : List UInt8 := dkwJ9_init_0 ++ []
theorem dksJ9_init_0 : cJ9_init.data.toList.drop 0 = dktJ9_init_0 := by decide +kernel
theorem dJ9_init_0 : decode cJ9_init 0 = .ok (.aload_n 0, 1) := dk_42 (dk_at dksJ9_init_0 0 rfl rfl)
theorem dJ9_init_1 : decode cJ9_init 1 = .ok (.aload_n 1, 1) := dk_43 (dk_at dksJ9_init_0 1 rfl rfl)
theorem dJ9_init_2 : decode cJ9_init 2 = .ok (.invokespecial 7, 3) := dk_183 0 7 (dk_at dksJ9_init_0 2 rfl rfl)
theorem dJ9_init_5 : decode cJ9_init 5 = .ok (.return_, 1) := dk_177 (dk_at dksJ9_init_0 5 rfl rfl)
theorem q64 : (Jvm.Cond.initialized "java/lang/ArrayStoreException") ∈ lw_all := lw_g (lw_at lw_m1 15 rfl) rfl
theorem q380 : (Jvm.Cond.selects "java/lang/ArrayStoreException" ({ cls := "java/lang/Object", name := "getClass", desc := "()Ljava/lang/Class;" } : Jvm.MethodName) ({ cls := "java/lang/Object", name := "getClass", desc := "()Ljava/lang/Class;" } : Jvm.MethodName)) ∈ lw_all := lw_g (lw_at lw_m2 91 rfl) rfl
theorem q571 : (Jvm.Cond.selects "java/lang/ArrayStoreException" ({ cls := "java/lang/Throwable", name := "fillInStackTrace", desc := "()Ljava/lang/Throwable;" } : Jvm.MethodName) ({ cls := "java/lang/Throwable", name := "fillInStackTrace", desc := "()Ljava/lang/Throwable;" } : Jvm.MethodName)) ∈ lw_all := lw_g (lw_at lw_m3 42 rfl) rfl
theorem q804 : (Jvm.Cond.instantiable "java/lang/ArrayStoreException" (6 : Nat)) ∈ lw_all := lw_g (lw_at lw_m4 35 rfl) rfl
theorem q805 : (Jvm.Cond.instanceMethod ({ cls := "java/lang/ArrayStoreException", name := "<init>", desc := "(Ljava/lang/String;)V" } : Jvm.MethodName)) ∈ lw_all := lw_g (lw_at lw_m4 36 rfl) rfl
theorem q806 : (Jvm.Cond.code ({ cls := "java/lang/ArrayStoreException", name := "<init>", desc := "(Ljava/lang/String;)V" } : Jvm.MethodName) prog_19_method_2_code (2 : Nat) (Option.none : Option Jvm.ClassFile.FieldType)) ∈ lw_all := lw_g (lw_at lw_m4 37 rfl) rfl
theorem q807 : (Jvm.Cond.methodLink "java/lang/ArrayStoreException" (7 : Nat) ({ cls := "java/lang/RuntimeException", name := "<init>", desc := "(Ljava/lang/String;)V" } : Jvm.MethodName)) ∈ lw_all := lw_g (lw_at lw_m4 38 rfl) rfl
theorem q808 : (Jvm.Cond.lays "java/lang/ArrayStoreException" "java/lang/Throwable" "backtrace" "Ljava/lang/Object;") ∈ lw_all := lw_g (lw_at lw_m4 39 rfl) rfl
theorem q809 : (Jvm.Cond.lays "java/lang/ArrayStoreException" "java/lang/Throwable" "detailMessage" "Ljava/lang/String;") ∈ lw_all := lw_g (lw_at lw_m4 40 rfl) rfl
theorem q810 : (Jvm.Cond.lays "java/lang/ArrayStoreException" "java/lang/Throwable" "cause" "Ljava/lang/Throwable;") ∈ lw_all := lw_g (lw_at lw_m4 41 rfl) rfl
theorem q811 : (Jvm.Cond.lays "java/lang/ArrayStoreException" "java/lang/Throwable" "stackTrace" "[Ljava/lang/StackTraceElement;") ∈ lw_all := lw_g (lw_at lw_m4 42 rfl) rfl
theorem q812 : (Jvm.Cond.lays "java/lang/ArrayStoreException" "java/lang/Throwable" "depth" "I") ∈ lw_all := lw_g (lw_at lw_m4 43 rfl) rfl
theorem q813 : (Jvm.Cond.lays "java/lang/ArrayStoreException" "java/lang/Throwable" "suppressedExceptions" "Ljava/util/List;") ∈ lw_all := lw_g (lw_at lw_m4 44 rfl) rfl
theorem q814 : (Jvm.Cond.superclass "java/lang/ArrayStoreException" "java/lang/RuntimeException") ∈ lw_all := lw_g (lw_at lw_m4 45 rfl) rfl
theorem q815 : (Jvm.Cond.castable "java/lang/ArrayStoreException" "java/lang/ArrayStoreException") ∈ lw_tbl := lw_at lw_m4 46 rfl
theorem q816 : (Jvm.Cond.selects "java/lang/ArrayStoreException" ({ cls := "java/lang/Throwable", name := "fillInStackTrace", desc := "(I)Ljava/lang/Throwable;" } : Jvm.MethodName) ({ cls := "java/lang/Throwable", name := "fillInStackTrace", desc := "(I)Ljava/lang/Throwable;" } : Jvm.MethodName)) ∈ lw_all := lw_g (lw_at lw_m4 47 rfl) rfl
theorem q1507 : (Jvm.Cond.castable "java/lang/ArrayStoreException" "java/lang/Object") ∈ lw_tbl := lw_at lw_m7 18 rfl
theorem in_J9 : ∀ w ∈ wsJ90, w ∈ lw_all := lw_in wsJ90 [808, 809, 810, 811, 812, 813] (by decide +kernel) (by decide +kernel)

/-! ThirdEbb$Booking -/
set_option maxRecDepth 100000
def RX10 : String := "ThirdEbb$Booking"
def TX10 : u_T := fun k => match k with
  | 0 => ("ThirdEbb$Looking", "sheet", "I", true)
  | 1 => ("ThirdEbb$Looking", "sort", "I", true)
  | 2 => ("ThirdEbb$Looking", "i", "I", true)
  | 3 => ("ThirdEbb$Looking", "n", "I", true)
  | 4 => ("ThirdEbb$Looking", "this$0", "LThirdEbb;", true)
  | 5 => ("ThirdEbb$Act", "this$0", "LThirdEbb;", true)
  | _ => ("ThirdEbb$Booking", "this$0", "LThirdEbb;", true)
def tyX10 : Nat → FieldType := fun k => match k with
  | 0 => .int
  | 1 => .int
  | 2 => .int
  | 3 => .int
  | 4 => .object "ThirdEbb"
  | 5 => .object "ThirdEbb"
  | _ => .object "ThirdEbb"
abbrev wsX100 : List Cond := u_ws RX10 TX10 7
-- two fields of one name: no nmX10
theorem tyX10_ok : ∀ k, k < 7 → parseFieldDescriptor (TX10 k).2.2.1 = some (tyX10 k) := by decide +kernel
abbrev cX10_look : ByteArray := prog_3_method_2_code
def yX10_look : MethodName := ⟨RX10, "look", "([I)I"⟩
theorem dX10_look_0 : decode cX10_look 0 = .ok (.aload_n 1, 1) := by decide +kernel
theorem dX10_look_1 : decode cX10_look 1 = .ok (.invokestatic 13, 3) := by decide +kernel
theorem dX10_look_4 : decode cX10_look 4 = .ok (.ireturn, 1) := by decide +kernel
abbrev cX10_init : ByteArray := prog_3_method_1_code
def yX10_init : MethodName := ⟨RX10, "<init>", "(LThirdEbb;IIII)V"⟩
def dkwX10_init_0 : List UInt8 := [42, 43, 181, 0, 1, 42, 43, 28, 29, 21, 4, 21, 5, 183, 0, 7, 177]
abbrev dktX10_init_0 : List UInt8 := dkwX10_init_0 ++ []
theorem dksX10_init_0 : cX10_init.data.toList.drop 0 = dktX10_init_0 := by decide +kernel
theorem dX10_init_0 : decode cX10_init 0 = .ok (.aload_n 0, 1) := dk_42 (dk_at dksX10_init_0 0 rfl rfl)
theorem dX10_init_1 : decode cX10_init 1 = .ok (.aload_n 1, 1) := dk_43 (dk_at dksX10_init_0 1 rfl rfl)
theorem dX10_init_2 : decode cX10_init 2 = .ok (.putfield 1, 3) := dk_181 0 1 (dk_at dksX10_init_0 2 rfl rfl)
theorem dX10_init_5 : decode cX10_init 5 = .ok (.aload_n 0, 1) := dk_42 (dk_at dksX10_init_0 5 rfl rfl)
theorem dX10_init_6 : decode cX10_init 6 = .ok (.aload_n 1, 1) := dk_43 (dk_at dksX10_init_0 6 rfl rfl)
theorem dX10_init_7 : decode cX10_init 7 = .ok (.iload_n 2, 1) := dk_28 (dk_at dksX10_init_0 7 rfl rfl)
theorem dX10_init_8 : decode cX10_init 8 = .ok (.iload_n 3, 1) := dk_29 (dk_at dksX10_init_0 8 rfl rfl)
theorem dX10_init_9 : decode cX10_init 9 = .ok (.iload 4, 2) := dk_21 4 (dk_at dksX10_init_0 9 rfl rfl)
theorem dX10_init_11 : decode cX10_init 11 = .ok (.iload 5, 2) := dk_21 5 (dk_at dksX10_init_0 11 rfl rfl)
theorem dX10_init_13 : decode cX10_init 13 = .ok (.invokespecial 7, 3) := dk_183 0 7 (dk_at dksX10_init_0 13 rfl rfl)
theorem dX10_init_16 : decode cX10_init 16 = .ok (.return_, 1) := dk_177 (dk_at dksX10_init_0 16 rfl rfl)
theorem q79 : (Jvm.Cond.initialized "ThirdEbb$Booking") ∈ lw_all := lw_g (lw_at lw_m1 30 rfl) rfl
theorem q368 : (Jvm.Cond.selects "ThirdEbb$Booking" ({ cls := "java/lang/Object", name := "getClass", desc := "()Ljava/lang/Class;" } : Jvm.MethodName) ({ cls := "java/lang/Object", name := "getClass", desc := "()Ljava/lang/Class;" } : Jvm.MethodName)) ∈ lw_all := lw_g (lw_at lw_m2 79 rfl) rfl
theorem q796 : (Jvm.Cond.selects "ThirdEbb$Booking" ({ cls := "ThirdEbb$Looking", name := "tried", desc := "()I" } : Jvm.MethodName) ({ cls := "ThirdEbb$Act", name := "tried", desc := "()I" } : Jvm.MethodName)) ∈ lw_all := lw_g (lw_at lw_m4 27 rfl) rfl
theorem q822 : (Jvm.Cond.selects "ThirdEbb$Booking" ({ cls := "ThirdEbb$Act", name := "done", desc := "()I" } : Jvm.MethodName) ({ cls := "ThirdEbb$Looking", name := "done", desc := "()I" } : Jvm.MethodName)) ∈ lw_all := lw_g (lw_at lw_m4 53 rfl) rfl
theorem q850 : (Jvm.Cond.selects "ThirdEbb$Booking" ({ cls := "ThirdEbb$Looking", name := "look", desc := "([I)I" } : Jvm.MethodName) ({ cls := "ThirdEbb$Booking", name := "look", desc := "([I)I" } : Jvm.MethodName)) ∈ lw_all := lw_g (lw_at lw_m4 81 rfl) rfl
theorem q851 : (Jvm.Cond.instanceMethod ({ cls := "ThirdEbb$Booking", name := "look", desc := "([I)I" } : Jvm.MethodName)) ∈ lw_all := lw_g (lw_at lw_m4 82 rfl) rfl
theorem q852 : (Jvm.Cond.code ({ cls := "ThirdEbb$Booking", name := "look", desc := "([I)I" } : Jvm.MethodName) prog_3_method_2_code (2 : Nat) (Option.some Jvm.ClassFile.FieldType.int)) ∈ lw_all := lw_g (lw_at lw_m4 83 rfl) rfl
theorem q853 : (Jvm.Cond.methodLinkNest "ThirdEbb$Booking" (13 : Nat) ({ cls := "ThirdEbb", name := "monthsOf", desc := "([I)I" } : Jvm.MethodName) "ThirdEbb") ∈ lw_tbl := lw_at lw_m4 84 rfl
theorem q979 : (Jvm.Cond.instantiable "ThirdEbb$Booking" (7 : Nat)) ∈ lw_all := lw_g (lw_at lw_m4 210 rfl) rfl
theorem q981 : (Jvm.Cond.instanceMethod ({ cls := "ThirdEbb$Booking", name := "<init>", desc := "(LThirdEbb;IIII)V" } : Jvm.MethodName)) ∈ lw_all := lw_g (lw_at lw_m4 212 rfl) rfl
theorem q982 : (Jvm.Cond.code ({ cls := "ThirdEbb$Booking", name := "<init>", desc := "(LThirdEbb;IIII)V" } : Jvm.MethodName) prog_3_method_1_code (6 : Nat) (Option.none : Option Jvm.ClassFile.FieldType)) ∈ lw_all := lw_g (lw_at lw_m4 213 rfl) rfl
theorem q983 : (Jvm.Cond.methodLink "ThirdEbb$Booking" (7 : Nat) ({ cls := "ThirdEbb$Looking", name := "<init>", desc := "(LThirdEbb;IIII)V" } : Jvm.MethodName)) ∈ lw_all := lw_g (lw_at lw_m4 214 rfl) rfl
theorem q984 : (Jvm.Cond.fieldLink "ThirdEbb$Booking" (1 : Nat) "ThirdEbb$Booking" "this$0" "LThirdEbb;") ∈ lw_all := lw_g (lw_at lw_m4 215 rfl) rfl
theorem q985 : (Jvm.Cond.laysFinal "ThirdEbb$Booking" "ThirdEbb$Booking" "this$0" "LThirdEbb;") ∈ lw_all := lw_g (lw_at lw_m4 216 rfl) rfl
theorem q986 : (Jvm.Cond.soleField "ThirdEbb$Booking" "this$0") ∈ lw_all := lw_g (lw_at lw_m4 217 rfl) rfl
theorem q987 : (Jvm.Cond.laysFinal "ThirdEbb$Booking" "ThirdEbb$Looking" "sheet" "I") ∈ lw_all := lw_g (lw_at lw_m4 218 rfl) rfl
theorem q988 : (Jvm.Cond.laysFinal "ThirdEbb$Booking" "ThirdEbb$Looking" "sort" "I") ∈ lw_all := lw_g (lw_at lw_m4 219 rfl) rfl
theorem q989 : (Jvm.Cond.laysFinal "ThirdEbb$Booking" "ThirdEbb$Looking" "i" "I") ∈ lw_all := lw_g (lw_at lw_m4 220 rfl) rfl
theorem q990 : (Jvm.Cond.laysFinal "ThirdEbb$Booking" "ThirdEbb$Looking" "n" "I") ∈ lw_all := lw_g (lw_at lw_m4 221 rfl) rfl
theorem q991 : (Jvm.Cond.laysFinal "ThirdEbb$Booking" "ThirdEbb$Looking" "this$0" "LThirdEbb;") ∈ lw_all := lw_g (lw_at lw_m4 222 rfl) rfl
theorem q992 : (Jvm.Cond.laysFinal "ThirdEbb$Booking" "ThirdEbb$Act" "this$0" "LThirdEbb;") ∈ lw_all := lw_g (lw_at lw_m4 223 rfl) rfl
theorem q993 : (Jvm.Cond.superclass "ThirdEbb$Booking" "ThirdEbb$Looking") ∈ lw_all := lw_g (lw_at lw_m4 224 rfl) rfl
theorem q1516 : (Jvm.Cond.castable "ThirdEbb$Booking" "java/lang/Object") ∈ lw_tbl := lw_at lw_m7 27 rfl
theorem in_X10 : ∀ w ∈ wsX100, w ∈ lw_all := lw_in wsX100 [987, 988, 989, 990, 991, 992, 985] (by decide +kernel) (by decide +kernel)

/-! ThirdEbb$Sheet -/
set_option maxRecDepth 100000
def RX11 : String := "ThirdEbb$Sheet"
def TX11 : u_T := fun k => match k with
  | _ => ("ThirdEbb$Sheet", "row", "Ljava/lang/Object;", true)
def tyX11 : Nat → FieldType := fun k => match k with
  | _ => .object "java/lang/Object"
abbrev wsX110 : List Cond := u_ws RX11 TX11 1
theorem nmX11 : ∀ a, a < 1 → ∀ b, b < 1 → a ≠ b → (TX11 a).2.1 ≠ (TX11 b).2.1 := by decide +kernel
theorem tyX11_ok : ∀ k, k < 1 → parseFieldDescriptor (TX11 k).2.2.1 = some (tyX11 k) := by decide +kernel
abbrev cX11_init : ByteArray := prog_10_method_1_code
def yX11_init : MethodName := ⟨RX11, "<init>", "(Ljava/lang/Object;)V"⟩
def dkwX11_init_0 : List UInt8 := [42, 183, 0, 1, 42, 43, 181, 0, 7, 177]
abbrev dktX11_init_0 : List UInt8 := dkwX11_init_0 ++ []
theorem dksX11_init_0 : cX11_init.data.toList.drop 0 = dktX11_init_0 := by decide +kernel
theorem dX11_init_0 : decode cX11_init 0 = .ok (.aload_n 0, 1) := dk_42 (dk_at dksX11_init_0 0 rfl rfl)
theorem dX11_init_1 : decode cX11_init 1 = .ok (.invokespecial 1, 3) := dk_183 0 1 (dk_at dksX11_init_0 1 rfl rfl)
theorem dX11_init_4 : decode cX11_init 4 = .ok (.aload_n 0, 1) := dk_42 (dk_at dksX11_init_0 4 rfl rfl)
theorem dX11_init_5 : decode cX11_init 5 = .ok (.aload_n 1, 1) := dk_43 (dk_at dksX11_init_0 5 rfl rfl)
theorem dX11_init_6 : decode cX11_init 6 = .ok (.putfield 7, 3) := dk_181 0 7 (dk_at dksX11_init_0 6 rfl rfl)
theorem dX11_init_9 : decode cX11_init 9 = .ok (.return_, 1) := dk_177 (dk_at dksX11_init_0 9 rfl rfl)
theorem q80 : (Jvm.Cond.initialized "ThirdEbb$Sheet") ∈ lw_all := lw_g (lw_at lw_m1 31 rfl) rfl
theorem q374 : (Jvm.Cond.selects "ThirdEbb$Sheet" ({ cls := "java/lang/Object", name := "getClass", desc := "()Ljava/lang/Class;" } : Jvm.MethodName) ({ cls := "java/lang/Object", name := "getClass", desc := "()Ljava/lang/Class;" } : Jvm.MethodName)) ∈ lw_all := lw_g (lw_at lw_m2 85 rfl) rfl
theorem q644 : (Jvm.Cond.instantiable "ThirdEbb$Sheet" (1 : Nat)) ∈ lw_all := lw_g (lw_at lw_m3 115 rfl) rfl
theorem q649 : (Jvm.Cond.instanceMethod ({ cls := "ThirdEbb$Sheet", name := "<init>", desc := "(Ljava/lang/Object;)V" } : Jvm.MethodName)) ∈ lw_all := lw_g (lw_at lw_m3 120 rfl) rfl
theorem q650 : (Jvm.Cond.code ({ cls := "ThirdEbb$Sheet", name := "<init>", desc := "(Ljava/lang/Object;)V" } : Jvm.MethodName) prog_10_method_1_code (2 : Nat) (Option.none : Option Jvm.ClassFile.FieldType)) ∈ lw_all := lw_g (lw_at lw_m3 121 rfl) rfl
theorem q651 : (Jvm.Cond.methodLink "ThirdEbb$Sheet" (1 : Nat) ({ cls := "java/lang/Object", name := "<init>", desc := "()V" } : Jvm.MethodName)) ∈ lw_all := lw_g (lw_at lw_m3 122 rfl) rfl
theorem q652 : (Jvm.Cond.fieldLink "ThirdEbb$Sheet" (7 : Nat) "ThirdEbb$Sheet" "row" "Ljava/lang/Object;") ∈ lw_all := lw_g (lw_at lw_m3 123 rfl) rfl
theorem q654 : (Jvm.Cond.laysFinal "ThirdEbb$Sheet" "ThirdEbb$Sheet" "row" "Ljava/lang/Object;") ∈ lw_all := lw_g (lw_at lw_m3 125 rfl) rfl
theorem q655 : (Jvm.Cond.soleField "ThirdEbb$Sheet" "row") ∈ lw_all := lw_g (lw_at lw_m3 126 rfl) rfl
theorem q656 : (Jvm.Cond.superclass "ThirdEbb$Sheet" "java/lang/Object") ∈ lw_all := lw_g (lw_at lw_m3 127 rfl) rfl
theorem q1500 : (Jvm.Cond.castable "ThirdEbb$Sheet" "java/lang/Object") ∈ lw_tbl := lw_at lw_m7 11 rfl
theorem in_X11 : ∀ w ∈ wsX110, w ∈ lw_all := lw_in wsX110 [654] (by decide +kernel) (by decide +kernel)

/-! ThirdEbb$Copying -/
set_option maxRecDepth 100000
def RX12 : String := "ThirdEbb$Copying"
def TX12 : u_T := fun k => match k with
  | 0 => ("ThirdEbb$Act", "this$0", "LThirdEbb;", true)
  | 1 => ("ThirdEbb$Copying", "from", "I", true)
  | 2 => ("ThirdEbb$Copying", "i", "I", true)
  | 3 => ("ThirdEbb$Copying", "to", "I", true)
  | 4 => ("ThirdEbb$Copying", "j", "I", true)
  | 5 => ("ThirdEbb$Copying", "n", "I", true)
  | _ => ("ThirdEbb$Copying", "this$0", "LThirdEbb;", true)
def tyX12 : Nat → FieldType := fun k => match k with
  | 0 => .object "ThirdEbb"
  | 1 => .int
  | 2 => .int
  | 3 => .int
  | 4 => .int
  | 5 => .int
  | _ => .object "ThirdEbb"
abbrev wsX120 : List Cond := u_ws RX12 TX12 7
-- two fields of one name: no nmX12
theorem tyX12_ok : ∀ k, k < 7 → parseFieldDescriptor (TX12 k).2.2.1 = some (tyX12 k) := by decide +kernel
abbrev cX12_done : ByteArray := prog_6_method_2_code
def yX12_done : MethodName := ⟨RX12, "done", "()I"⟩
def dkwX12_done_1 : List UInt8 := [182, 0, 29, 42, 180, 0, 23, 42, 180, 0, 26, 184, 0, 35, 42, 180, 0, 26, 172]
abbrev dktX12_done_1 : List UInt8 := dkwX12_done_1 ++ []
def dkwX12_done_0 : List UInt8 := [42, 180, 0, 1, 42, 180, 0, 13, 182, 0, 29, 42, 180, 0, 17, 42, 180, 0, 1, 42, 180, 0, 20]
abbrev dktX12_done_0 : List UInt8 := dkwX12_done_0 ++ dktX12_done_1
theorem dksX12_done_0 : cX12_done.data.toList.drop 0 = dktX12_done_0 := by decide +kernel
theorem dksX12_done_1 : cX12_done.data.toList.drop 23 = dktX12_done_1 := dk_seg dksX12_done_0 23 rfl rfl
theorem dX12_done_0 : decode cX12_done 0 = .ok (.aload_n 0, 1) := dk_42 (dk_at dksX12_done_0 0 rfl rfl)
theorem dX12_done_1 : decode cX12_done 1 = .ok (.getfield 1, 3) := dk_180 0 1 (dk_at dksX12_done_0 1 rfl rfl)
theorem dX12_done_4 : decode cX12_done 4 = .ok (.aload_n 0, 1) := dk_42 (dk_at dksX12_done_0 4 rfl rfl)
theorem dX12_done_5 : decode cX12_done 5 = .ok (.getfield 13, 3) := dk_180 0 13 (dk_at dksX12_done_0 5 rfl rfl)
theorem dX12_done_8 : decode cX12_done 8 = .ok (.invokevirtual 29, 3) := dk_182 0 29 (dk_at dksX12_done_0 8 rfl rfl)
theorem dX12_done_11 : decode cX12_done 11 = .ok (.aload_n 0, 1) := dk_42 (dk_at dksX12_done_0 11 rfl rfl)
theorem dX12_done_12 : decode cX12_done 12 = .ok (.getfield 17, 3) := dk_180 0 17 (dk_at dksX12_done_0 12 rfl rfl)
theorem dX12_done_15 : decode cX12_done 15 = .ok (.aload_n 0, 1) := dk_42 (dk_at dksX12_done_0 15 rfl rfl)
theorem dX12_done_16 : decode cX12_done 16 = .ok (.getfield 1, 3) := dk_180 0 1 (dk_at dksX12_done_0 16 rfl rfl)
theorem dX12_done_19 : decode cX12_done 19 = .ok (.aload_n 0, 1) := dk_42 (dk_at dksX12_done_0 19 rfl rfl)
theorem dX12_done_20 : decode cX12_done 20 = .ok (.getfield 20, 3) := dk_180 0 20 (dk_at dksX12_done_0 20 rfl rfl)
theorem dX12_done_23 : decode cX12_done 23 = .ok (.invokevirtual 29, 3) := dk_182 0 29 (dk_at dksX12_done_1 0 rfl rfl)
theorem dX12_done_26 : decode cX12_done 26 = .ok (.aload_n 0, 1) := dk_42 (dk_at dksX12_done_1 3 rfl rfl)
theorem dX12_done_27 : decode cX12_done 27 = .ok (.getfield 23, 3) := dk_180 0 23 (dk_at dksX12_done_1 4 rfl rfl)
theorem dX12_done_30 : decode cX12_done 30 = .ok (.aload_n 0, 1) := dk_42 (dk_at dksX12_done_1 7 rfl rfl)
theorem dX12_done_31 : decode cX12_done 31 = .ok (.getfield 26, 3) := dk_180 0 26 (dk_at dksX12_done_1 8 rfl rfl)
theorem dX12_done_34 : decode cX12_done 34 = .ok (.invokestatic 35, 3) := dk_184 0 35 (dk_at dksX12_done_1 11 rfl rfl)
theorem dX12_done_37 : decode cX12_done 37 = .ok (.aload_n 0, 1) := dk_42 (dk_at dksX12_done_1 14 rfl rfl)
theorem dX12_done_38 : decode cX12_done 38 = .ok (.getfield 26, 3) := dk_180 0 26 (dk_at dksX12_done_1 15 rfl rfl)
theorem dX12_done_41 : decode cX12_done 41 = .ok (.ireturn, 1) := dk_172 (dk_at dksX12_done_1 18 rfl rfl)
abbrev cX12_init : ByteArray := prog_6_method_1_code
def yX12_init : MethodName := ⟨RX12, "<init>", "(LThirdEbb;IIIII)V"⟩
def dkwX12_init_1 : List UInt8 := [181, 0, 20, 42, 21, 5, 181, 0, 23, 42, 21, 6, 181, 0, 26, 177]
abbrev dktX12_init_1 : List UInt8 := dkwX12_init_1 ++ []
def dkwX12_init_0 : List UInt8 := [42, 43, 181, 0, 1, 42, 43, 183, 0, 7, 42, 28, 181, 0, 13, 42, 29, 181, 0, 17, 42, 21, 4]
abbrev dktX12_init_0 : List UInt8 := dkwX12_init_0 ++ dktX12_init_1
theorem dksX12_init_0 : cX12_init.data.toList.drop 0 = dktX12_init_0 := by decide +kernel
theorem dksX12_init_1 : cX12_init.data.toList.drop 23 = dktX12_init_1 := dk_seg dksX12_init_0 23 rfl rfl
theorem dX12_init_0 : decode cX12_init 0 = .ok (.aload_n 0, 1) := dk_42 (dk_at dksX12_init_0 0 rfl rfl)
theorem dX12_init_1 : decode cX12_init 1 = .ok (.aload_n 1, 1) := dk_43 (dk_at dksX12_init_0 1 rfl rfl)
theorem dX12_init_2 : decode cX12_init 2 = .ok (.putfield 1, 3) := dk_181 0 1 (dk_at dksX12_init_0 2 rfl rfl)
theorem dX12_init_5 : decode cX12_init 5 = .ok (.aload_n 0, 1) := dk_42 (dk_at dksX12_init_0 5 rfl rfl)
theorem dX12_init_6 : decode cX12_init 6 = .ok (.aload_n 1, 1) := dk_43 (dk_at dksX12_init_0 6 rfl rfl)
theorem dX12_init_7 : decode cX12_init 7 = .ok (.invokespecial 7, 3) := dk_183 0 7 (dk_at dksX12_init_0 7 rfl rfl)
theorem dX12_init_10 : decode cX12_init 10 = .ok (.aload_n 0, 1) := dk_42 (dk_at dksX12_init_0 10 rfl rfl)
theorem dX12_init_11 : decode cX12_init 11 = .ok (.iload_n 2, 1) := dk_28 (dk_at dksX12_init_0 11 rfl rfl)
theorem dX12_init_12 : decode cX12_init 12 = .ok (.putfield 13, 3) := dk_181 0 13 (dk_at dksX12_init_0 12 rfl rfl)
theorem dX12_init_15 : decode cX12_init 15 = .ok (.aload_n 0, 1) := dk_42 (dk_at dksX12_init_0 15 rfl rfl)
theorem dX12_init_16 : decode cX12_init 16 = .ok (.iload_n 3, 1) := dk_29 (dk_at dksX12_init_0 16 rfl rfl)
theorem dX12_init_17 : decode cX12_init 17 = .ok (.putfield 17, 3) := dk_181 0 17 (dk_at dksX12_init_0 17 rfl rfl)
theorem dX12_init_20 : decode cX12_init 20 = .ok (.aload_n 0, 1) := dk_42 (dk_at dksX12_init_0 20 rfl rfl)
theorem dX12_init_21 : decode cX12_init 21 = .ok (.iload 4, 2) := dk_21 4 (dk_at dksX12_init_0 21 rfl rfl)
theorem dX12_init_23 : decode cX12_init 23 = .ok (.putfield 20, 3) := dk_181 0 20 (dk_at dksX12_init_1 0 rfl rfl)
theorem dX12_init_26 : decode cX12_init 26 = .ok (.aload_n 0, 1) := dk_42 (dk_at dksX12_init_1 3 rfl rfl)
theorem dX12_init_27 : decode cX12_init 27 = .ok (.iload 5, 2) := dk_21 5 (dk_at dksX12_init_1 4 rfl rfl)
theorem dX12_init_29 : decode cX12_init 29 = .ok (.putfield 23, 3) := dk_181 0 23 (dk_at dksX12_init_1 6 rfl rfl)
theorem dX12_init_32 : decode cX12_init 32 = .ok (.aload_n 0, 1) := dk_42 (dk_at dksX12_init_1 9 rfl rfl)
theorem dX12_init_33 : decode cX12_init 33 = .ok (.iload 6, 2) := dk_21 6 (dk_at dksX12_init_1 10 rfl rfl)
theorem dX12_init_35 : decode cX12_init 35 = .ok (.putfield 26, 3) := dk_181 0 26 (dk_at dksX12_init_1 12 rfl rfl)
theorem dX12_init_38 : decode cX12_init 38 = .ok (.return_, 1) := dk_177 (dk_at dksX12_init_1 15 rfl rfl)
theorem q81 : (Jvm.Cond.initialized "ThirdEbb$Copying") ∈ lw_all := lw_g (lw_at lw_m1 32 rfl) rfl
theorem q371 : (Jvm.Cond.selects "ThirdEbb$Copying" ({ cls := "java/lang/Object", name := "getClass", desc := "()Ljava/lang/Class;" } : Jvm.MethodName) ({ cls := "java/lang/Object", name := "getClass", desc := "()Ljava/lang/Class;" } : Jvm.MethodName)) ∈ lw_all := lw_g (lw_at lw_m2 82 rfl) rfl
theorem q939 : (Jvm.Cond.selects "ThirdEbb$Copying" ({ cls := "ThirdEbb$Act", name := "done", desc := "()I" } : Jvm.MethodName) ({ cls := "ThirdEbb$Copying", name := "done", desc := "()I" } : Jvm.MethodName)) ∈ lw_all := lw_g (lw_at lw_m4 170 rfl) rfl
theorem q940 : (Jvm.Cond.instanceMethod ({ cls := "ThirdEbb$Copying", name := "done", desc := "()I" } : Jvm.MethodName)) ∈ lw_all := lw_g (lw_at lw_m4 171 rfl) rfl
theorem q941 : (Jvm.Cond.code ({ cls := "ThirdEbb$Copying", name := "done", desc := "()I" } : Jvm.MethodName) prog_6_method_2_code (1 : Nat) (Option.some Jvm.ClassFile.FieldType.int)) ∈ lw_all := lw_g (lw_at lw_m4 172 rfl) rfl
theorem q942 : (Jvm.Cond.methodLinkNest "ThirdEbb$Copying" (29 : Nat) ({ cls := "ThirdEbb", name := "rowIn", desc := "(I)Ljava/lang/Object;" } : Jvm.MethodName) "ThirdEbb") ∈ lw_tbl := lw_at lw_m4 173 rfl
theorem q943 : (Jvm.Cond.methodLink "ThirdEbb$Copying" (35 : Nat) ({ cls := "java/lang/System", name := "arraycopy", desc := "(Ljava/lang/Object;ILjava/lang/Object;II)V" } : Jvm.MethodName)) ∈ lw_all := lw_g (lw_at lw_m4 174 rfl) rfl
theorem q999 : (Jvm.Cond.instantiable "ThirdEbb$Copying" (7 : Nat)) ∈ lw_all := lw_g (lw_at lw_m4 230 rfl) rfl
theorem q1001 : (Jvm.Cond.instanceMethod ({ cls := "ThirdEbb$Copying", name := "<init>", desc := "(LThirdEbb;IIIII)V" } : Jvm.MethodName)) ∈ lw_all := lw_g (lw_at lw_m4 232 rfl) rfl
theorem q1002 : (Jvm.Cond.code ({ cls := "ThirdEbb$Copying", name := "<init>", desc := "(LThirdEbb;IIIII)V" } : Jvm.MethodName) prog_6_method_1_code (7 : Nat) (Option.none : Option Jvm.ClassFile.FieldType)) ∈ lw_all := lw_g (lw_at lw_m4 233 rfl) rfl
theorem q1003 : (Jvm.Cond.methodLinkNest "ThirdEbb$Copying" (7 : Nat) ({ cls := "ThirdEbb$Act", name := "<init>", desc := "(LThirdEbb;)V" } : Jvm.MethodName) "ThirdEbb") ∈ lw_tbl := lw_at lw_m4 234 rfl
theorem q1004 : (Jvm.Cond.fieldLink "ThirdEbb$Copying" (13 : Nat) "ThirdEbb$Copying" "from" "I") ∈ lw_all := lw_g (lw_at lw_m4 235 rfl) rfl
theorem q1005 : (Jvm.Cond.fieldLink "ThirdEbb$Copying" (17 : Nat) "ThirdEbb$Copying" "i" "I") ∈ lw_all := lw_g (lw_at lw_m4 236 rfl) rfl
theorem q1006 : (Jvm.Cond.fieldLink "ThirdEbb$Copying" (20 : Nat) "ThirdEbb$Copying" "to" "I") ∈ lw_all := lw_g (lw_at lw_m4 237 rfl) rfl
theorem q1007 : (Jvm.Cond.fieldLink "ThirdEbb$Copying" (23 : Nat) "ThirdEbb$Copying" "j" "I") ∈ lw_all := lw_g (lw_at lw_m4 238 rfl) rfl
theorem q1008 : (Jvm.Cond.fieldLink "ThirdEbb$Copying" (26 : Nat) "ThirdEbb$Copying" "n" "I") ∈ lw_all := lw_g (lw_at lw_m4 239 rfl) rfl
theorem q1009 : (Jvm.Cond.fieldLink "ThirdEbb$Copying" (1 : Nat) "ThirdEbb$Copying" "this$0" "LThirdEbb;") ∈ lw_all := lw_g (lw_at lw_m5 0 rfl) rfl
theorem q1010 : (Jvm.Cond.laysFinal "ThirdEbb$Copying" "ThirdEbb$Copying" "from" "I") ∈ lw_all := lw_g (lw_at lw_m5 1 rfl) rfl
theorem q1011 : (Jvm.Cond.soleField "ThirdEbb$Copying" "from") ∈ lw_all := lw_g (lw_at lw_m5 2 rfl) rfl
theorem q1012 : (Jvm.Cond.laysFinal "ThirdEbb$Copying" "ThirdEbb$Copying" "i" "I") ∈ lw_all := lw_g (lw_at lw_m5 3 rfl) rfl
theorem q1013 : (Jvm.Cond.soleField "ThirdEbb$Copying" "i") ∈ lw_all := lw_g (lw_at lw_m5 4 rfl) rfl
theorem q1014 : (Jvm.Cond.laysFinal "ThirdEbb$Copying" "ThirdEbb$Copying" "to" "I") ∈ lw_all := lw_g (lw_at lw_m5 5 rfl) rfl
theorem q1015 : (Jvm.Cond.soleField "ThirdEbb$Copying" "to") ∈ lw_all := lw_g (lw_at lw_m5 6 rfl) rfl
theorem q1016 : (Jvm.Cond.laysFinal "ThirdEbb$Copying" "ThirdEbb$Copying" "j" "I") ∈ lw_all := lw_g (lw_at lw_m5 7 rfl) rfl
theorem q1017 : (Jvm.Cond.soleField "ThirdEbb$Copying" "j") ∈ lw_all := lw_g (lw_at lw_m5 8 rfl) rfl
theorem q1018 : (Jvm.Cond.laysFinal "ThirdEbb$Copying" "ThirdEbb$Copying" "n" "I") ∈ lw_all := lw_g (lw_at lw_m5 9 rfl) rfl
theorem q1019 : (Jvm.Cond.soleField "ThirdEbb$Copying" "n") ∈ lw_all := lw_g (lw_at lw_m5 10 rfl) rfl
theorem q1020 : (Jvm.Cond.laysFinal "ThirdEbb$Copying" "ThirdEbb$Copying" "this$0" "LThirdEbb;") ∈ lw_all := lw_g (lw_at lw_m5 11 rfl) rfl
theorem q1021 : (Jvm.Cond.soleField "ThirdEbb$Copying" "this$0") ∈ lw_all := lw_g (lw_at lw_m5 12 rfl) rfl
theorem q1022 : (Jvm.Cond.laysFinal "ThirdEbb$Copying" "ThirdEbb$Act" "this$0" "LThirdEbb;") ∈ lw_all := lw_g (lw_at lw_m5 13 rfl) rfl
theorem q1023 : (Jvm.Cond.superclass "ThirdEbb$Copying" "ThirdEbb$Act") ∈ lw_all := lw_g (lw_at lw_m5 14 rfl) rfl
theorem q1025 : (Jvm.Cond.sameMethod "ThirdEbb$Copying" "ThirdEbb$Act" "tried" "()I") ∈ lw_all := lw_g (lw_at lw_m5 16 rfl) rfl
theorem q1026 : (Jvm.Cond.selects "ThirdEbb$Copying" ({ cls := "ThirdEbb$Copying", name := "tried", desc := "()I" } : Jvm.MethodName) ({ cls := "ThirdEbb$Act", name := "tried", desc := "()I" } : Jvm.MethodName)) ∈ lw_all := lw_g (lw_at lw_m5 17 rfl) rfl
theorem q1517 : (Jvm.Cond.castable "ThirdEbb$Copying" "java/lang/Object") ∈ lw_tbl := lw_at lw_m7 28 rfl
theorem in_X12 : ∀ w ∈ wsX120, w ∈ lw_all := lw_in wsX120 [1022, 1010, 1012, 1014, 1016, 1018, 1020] (by decide +kernel) (by decide +kernel)

/-! ThirdEbb$Taking -/
set_option maxRecDepth 100000
def RX13 : String := "ThirdEbb$Taking"
def TX13 : u_T := fun k => match k with
  | 0 => ("ThirdEbb$Act", "this$0", "LThirdEbb;", true)
  | 1 => ("ThirdEbb$Taking", "one", "LThirdEbb$Soft;", true)
  | 2 => ("ThirdEbb$Taking", "kind", "I", true)
  | _ => ("ThirdEbb$Taking", "this$0", "LThirdEbb;", true)
def tyX13 : Nat → FieldType := fun k => match k with
  | 0 => .object "ThirdEbb"
  | 1 => .object "ThirdEbb$Soft"
  | 2 => .int
  | _ => .object "ThirdEbb"
abbrev wsX130 : List Cond := u_ws RX13 TX13 4
-- two fields of one name: no nmX13
theorem tyX13_ok : ∀ k, k < 4 → parseFieldDescriptor (TX13 k).2.2.1 = some (tyX13 k) := by decide +kernel
abbrev cX13_done : ByteArray := prog_14_method_2_code
def yX13_done : MethodName := ⟨RX13, "done", "()I"⟩
def dkwX13_done_2 : List UInt8 := [180, 0, 31, 60, 27, 156, 0, 7, 3, 167, 0, 4, 4, 172]
abbrev dktX13_done_2 : List UInt8 := dkwX13_done_2 ++ []
def dkwX13_done_1 : List UInt8 := [160, 0, 16, 42, 180, 0, 13, 192, 0, 26, 180, 0, 28, 167, 0, 13, 42, 180, 0, 13, 192, 0, 29]
abbrev dktX13_done_1 : List UInt8 := dkwX13_done_1 ++ dktX13_done_2
def dkwX13_done_0 : List UInt8 := [42, 180, 0, 17, 154, 0, 13, 42, 180, 0, 13, 180, 0, 21, 167, 0, 34, 42, 180, 0, 17, 4]
abbrev dktX13_done_0 : List UInt8 := dkwX13_done_0 ++ dktX13_done_1
theorem dksX13_done_0 : cX13_done.data.toList.drop 0 = dktX13_done_0 := by decide +kernel
theorem dksX13_done_1 : cX13_done.data.toList.drop 22 = dktX13_done_1 := dk_seg dksX13_done_0 22 rfl rfl
theorem dksX13_done_2 : cX13_done.data.toList.drop 45 = dktX13_done_2 := dk_seg dksX13_done_1 23 rfl rfl
theorem dX13_done_0 : decode cX13_done 0 = .ok (.aload_n 0, 1) := dk_42 (dk_at dksX13_done_0 0 rfl rfl)
theorem dX13_done_1 : decode cX13_done 1 = .ok (.getfield 17, 3) := dk_180 0 17 (dk_at dksX13_done_0 1 rfl rfl)
theorem dX13_done_4 : decode cX13_done 4 = .ok (.ifCond .ne 13, 3) := dk_154 0 13 (dk_at dksX13_done_0 4 rfl rfl)
theorem dX13_done_7 : decode cX13_done 7 = .ok (.aload_n 0, 1) := dk_42 (dk_at dksX13_done_0 7 rfl rfl)
theorem dX13_done_8 : decode cX13_done 8 = .ok (.getfield 13, 3) := dk_180 0 13 (dk_at dksX13_done_0 8 rfl rfl)
theorem dX13_done_11 : decode cX13_done 11 = .ok (.getfield 21, 3) := dk_180 0 21 (dk_at dksX13_done_0 11 rfl rfl)
theorem dX13_done_14 : decode cX13_done 14 = .ok (.goto 34, 3) := dk_167 0 34 (dk_at dksX13_done_0 14 rfl rfl)
theorem dX13_done_17 : decode cX13_done 17 = .ok (.aload_n 0, 1) := dk_42 (dk_at dksX13_done_0 17 rfl rfl)
theorem dX13_done_18 : decode cX13_done 18 = .ok (.getfield 17, 3) := dk_180 0 17 (dk_at dksX13_done_0 18 rfl rfl)
theorem dX13_done_21 : decode cX13_done 21 = .ok (.iconst 1, 1) := dk_4 (dk_at dksX13_done_0 21 rfl rfl)
theorem dX13_done_22 : decode cX13_done 22 = .ok (.if_icmp .ne 16, 3) := dk_160 0 16 (dk_at dksX13_done_1 0 rfl rfl)
theorem dX13_done_25 : decode cX13_done 25 = .ok (.aload_n 0, 1) := dk_42 (dk_at dksX13_done_1 3 rfl rfl)
theorem dX13_done_26 : decode cX13_done 26 = .ok (.getfield 13, 3) := dk_180 0 13 (dk_at dksX13_done_1 4 rfl rfl)
theorem dX13_done_29 : decode cX13_done 29 = .ok (.checkcast 26, 3) := dk_192 0 26 (dk_at dksX13_done_1 7 rfl rfl)
theorem dX13_done_32 : decode cX13_done 32 = .ok (.getfield 28, 3) := dk_180 0 28 (dk_at dksX13_done_1 10 rfl rfl)
theorem dX13_done_35 : decode cX13_done 35 = .ok (.goto 13, 3) := dk_167 0 13 (dk_at dksX13_done_1 13 rfl rfl)
theorem dX13_done_38 : decode cX13_done 38 = .ok (.aload_n 0, 1) := dk_42 (dk_at dksX13_done_1 16 rfl rfl)
theorem dX13_done_39 : decode cX13_done 39 = .ok (.getfield 13, 3) := dk_180 0 13 (dk_at dksX13_done_1 17 rfl rfl)
theorem dX13_done_42 : decode cX13_done 42 = .ok (.checkcast 29, 3) := dk_192 0 29 (dk_at dksX13_done_1 20 rfl rfl)
theorem dX13_done_45 : decode cX13_done 45 = .ok (.getfield 31, 3) := dk_180 0 31 (dk_at dksX13_done_2 0 rfl rfl)
theorem dX13_done_48 : decode cX13_done 48 = .ok (.istore_n 1, 1) := dk_60 (dk_at dksX13_done_2 3 rfl rfl)
theorem dX13_done_49 : decode cX13_done 49 = .ok (.iload_n 1, 1) := dk_27 (dk_at dksX13_done_2 4 rfl rfl)
theorem dX13_done_50 : decode cX13_done 50 = .ok (.ifCond .ge 7, 3) := dk_156 0 7 (dk_at dksX13_done_2 5 rfl rfl)
theorem dX13_done_53 : decode cX13_done 53 = .ok (.iconst 0, 1) := dk_3 (dk_at dksX13_done_2 8 rfl rfl)
theorem dX13_done_54 : decode cX13_done 54 = .ok (.goto 4, 3) := dk_167 0 4 (dk_at dksX13_done_2 9 rfl rfl)
theorem dX13_done_57 : decode cX13_done 57 = .ok (.iconst 1, 1) := dk_4 (dk_at dksX13_done_2 12 rfl rfl)
theorem dX13_done_58 : decode cX13_done 58 = .ok (.ireturn, 1) := dk_172 (dk_at dksX13_done_2 13 rfl rfl)
abbrev cX13_init : ByteArray := prog_14_method_1_code
def yX13_init : MethodName := ⟨RX13, "<init>", "(LThirdEbb;LThirdEbb$Soft;I)V"⟩
def dkwX13_init_0 : List UInt8 := [42, 43, 181, 0, 1, 42, 43, 183, 0, 7, 42, 44, 181, 0, 13, 42, 29, 181, 0, 17, 177]
abbrev dktX13_init_0 : List UInt8 := dkwX13_init_0 ++ []
theorem dksX13_init_0 : cX13_init.data.toList.drop 0 = dktX13_init_0 := by decide +kernel
theorem dX13_init_0 : decode cX13_init 0 = .ok (.aload_n 0, 1) := dk_42 (dk_at dksX13_init_0 0 rfl rfl)
theorem dX13_init_1 : decode cX13_init 1 = .ok (.aload_n 1, 1) := dk_43 (dk_at dksX13_init_0 1 rfl rfl)
theorem dX13_init_2 : decode cX13_init 2 = .ok (.putfield 1, 3) := dk_181 0 1 (dk_at dksX13_init_0 2 rfl rfl)
theorem dX13_init_5 : decode cX13_init 5 = .ok (.aload_n 0, 1) := dk_42 (dk_at dksX13_init_0 5 rfl rfl)
theorem dX13_init_6 : decode cX13_init 6 = .ok (.aload_n 1, 1) := dk_43 (dk_at dksX13_init_0 6 rfl rfl)
theorem dX13_init_7 : decode cX13_init 7 = .ok (.invokespecial 7, 3) := dk_183 0 7 (dk_at dksX13_init_0 7 rfl rfl)
theorem dX13_init_10 : decode cX13_init 10 = .ok (.aload_n 0, 1) := dk_42 (dk_at dksX13_init_0 10 rfl rfl)
theorem dX13_init_11 : decode cX13_init 11 = .ok (.aload_n 2, 1) := dk_44 (dk_at dksX13_init_0 11 rfl rfl)
theorem dX13_init_12 : decode cX13_init 12 = .ok (.putfield 13, 3) := dk_181 0 13 (dk_at dksX13_init_0 12 rfl rfl)
theorem dX13_init_15 : decode cX13_init 15 = .ok (.aload_n 0, 1) := dk_42 (dk_at dksX13_init_0 15 rfl rfl)
theorem dX13_init_16 : decode cX13_init 16 = .ok (.iload_n 3, 1) := dk_29 (dk_at dksX13_init_0 16 rfl rfl)
theorem dX13_init_17 : decode cX13_init 17 = .ok (.putfield 17, 3) := dk_181 0 17 (dk_at dksX13_init_0 17 rfl rfl)
theorem dX13_init_20 : decode cX13_init 20 = .ok (.return_, 1) := dk_177 (dk_at dksX13_init_0 20 rfl rfl)
theorem q82 : (Jvm.Cond.initialized "ThirdEbb$Taking") ∈ lw_all := lw_g (lw_at lw_m1 33 rfl) rfl
theorem q265 : (Jvm.Cond.fieldLink "ThirdEbb$Taking" (21 : Nat) "ThirdEbb$Soft" "number" "I") ∈ lw_all := lw_g (lw_at lw_m1 216 rfl) rfl
theorem q266 : (Jvm.Cond.fieldLink "ThirdEbb$Taking" (28 : Nat) "ThirdEbb$Bridged" "number" "I") ∈ lw_all := lw_g (lw_at lw_m1 217 rfl) rfl
theorem q268 : (Jvm.Cond.fieldLink "ThirdEbb$Taking" (31 : Nat) "ThirdEbb$Shifting" "number" "I") ∈ lw_all := lw_g (lw_at lw_m1 219 rfl) rfl
theorem q377 : (Jvm.Cond.selects "ThirdEbb$Taking" ({ cls := "java/lang/Object", name := "getClass", desc := "()Ljava/lang/Class;" } : Jvm.MethodName) ({ cls := "java/lang/Object", name := "getClass", desc := "()Ljava/lang/Class;" } : Jvm.MethodName)) ∈ lw_all := lw_g (lw_at lw_m2 88 rfl) rfl
theorem q945 : (Jvm.Cond.selects "ThirdEbb$Taking" ({ cls := "ThirdEbb$Act", name := "done", desc := "()I" } : Jvm.MethodName) ({ cls := "ThirdEbb$Taking", name := "done", desc := "()I" } : Jvm.MethodName)) ∈ lw_all := lw_g (lw_at lw_m4 176 rfl) rfl
theorem q946 : (Jvm.Cond.instanceMethod ({ cls := "ThirdEbb$Taking", name := "done", desc := "()I" } : Jvm.MethodName)) ∈ lw_all := lw_g (lw_at lw_m4 177 rfl) rfl
theorem q947 : (Jvm.Cond.code ({ cls := "ThirdEbb$Taking", name := "done", desc := "()I" } : Jvm.MethodName) prog_14_method_2_code (2 : Nat) (Option.some Jvm.ClassFile.FieldType.int)) ∈ lw_all := lw_g (lw_at lw_m4 178 rfl) rfl
theorem q948 : (Jvm.Cond.classLink "ThirdEbb$Taking" (26 : Nat) "ThirdEbb$Bridged") ∈ lw_all := lw_g (lw_at lw_m4 179 rfl) rfl
theorem q949 : (Jvm.Cond.classLink "ThirdEbb$Taking" (29 : Nat) "ThirdEbb$Shifting") ∈ lw_all := lw_g (lw_at lw_m4 180 rfl) rfl
theorem q1112 : (Jvm.Cond.instantiable "ThirdEbb$Taking" (4 : Nat)) ∈ lw_all := lw_g (lw_at lw_m5 103 rfl) rfl
theorem q1114 : (Jvm.Cond.instanceMethod ({ cls := "ThirdEbb$Taking", name := "<init>", desc := "(LThirdEbb;LThirdEbb$Soft;I)V" } : Jvm.MethodName)) ∈ lw_all := lw_g (lw_at lw_m5 105 rfl) rfl
theorem q1115 : (Jvm.Cond.code ({ cls := "ThirdEbb$Taking", name := "<init>", desc := "(LThirdEbb;LThirdEbb$Soft;I)V" } : Jvm.MethodName) prog_14_method_1_code (4 : Nat) (Option.none : Option Jvm.ClassFile.FieldType)) ∈ lw_all := lw_g (lw_at lw_m5 106 rfl) rfl
theorem q1116 : (Jvm.Cond.methodLinkNest "ThirdEbb$Taking" (7 : Nat) ({ cls := "ThirdEbb$Act", name := "<init>", desc := "(LThirdEbb;)V" } : Jvm.MethodName) "ThirdEbb") ∈ lw_tbl := lw_at lw_m5 107 rfl
theorem q1117 : (Jvm.Cond.fieldLink "ThirdEbb$Taking" (13 : Nat) "ThirdEbb$Taking" "one" "LThirdEbb$Soft;") ∈ lw_all := lw_g (lw_at lw_m5 108 rfl) rfl
theorem q1118 : (Jvm.Cond.fieldLink "ThirdEbb$Taking" (17 : Nat) "ThirdEbb$Taking" "kind" "I") ∈ lw_all := lw_g (lw_at lw_m5 109 rfl) rfl
theorem q1119 : (Jvm.Cond.fieldLink "ThirdEbb$Taking" (1 : Nat) "ThirdEbb$Taking" "this$0" "LThirdEbb;") ∈ lw_all := lw_g (lw_at lw_m5 110 rfl) rfl
theorem q1120 : (Jvm.Cond.laysFinal "ThirdEbb$Taking" "ThirdEbb$Taking" "one" "LThirdEbb$Soft;") ∈ lw_all := lw_g (lw_at lw_m5 111 rfl) rfl
theorem q1121 : (Jvm.Cond.soleField "ThirdEbb$Taking" "one") ∈ lw_all := lw_g (lw_at lw_m5 112 rfl) rfl
theorem q1122 : (Jvm.Cond.laysFinal "ThirdEbb$Taking" "ThirdEbb$Taking" "kind" "I") ∈ lw_all := lw_g (lw_at lw_m5 113 rfl) rfl
theorem q1123 : (Jvm.Cond.soleField "ThirdEbb$Taking" "kind") ∈ lw_all := lw_g (lw_at lw_m5 114 rfl) rfl
theorem q1124 : (Jvm.Cond.laysFinal "ThirdEbb$Taking" "ThirdEbb$Taking" "this$0" "LThirdEbb;") ∈ lw_all := lw_g (lw_at lw_m5 115 rfl) rfl
theorem q1125 : (Jvm.Cond.soleField "ThirdEbb$Taking" "this$0") ∈ lw_all := lw_g (lw_at lw_m5 116 rfl) rfl
theorem q1126 : (Jvm.Cond.laysFinal "ThirdEbb$Taking" "ThirdEbb$Act" "this$0" "LThirdEbb;") ∈ lw_all := lw_g (lw_at lw_m5 117 rfl) rfl
theorem q1127 : (Jvm.Cond.superclass "ThirdEbb$Taking" "ThirdEbb$Act") ∈ lw_all := lw_g (lw_at lw_m5 118 rfl) rfl
theorem q1129 : (Jvm.Cond.sameMethod "ThirdEbb$Taking" "ThirdEbb$Act" "tried" "()I") ∈ lw_all := lw_g (lw_at lw_m5 120 rfl) rfl
theorem q1130 : (Jvm.Cond.selects "ThirdEbb$Taking" ({ cls := "ThirdEbb$Taking", name := "tried", desc := "()I" } : Jvm.MethodName) ({ cls := "ThirdEbb$Act", name := "tried", desc := "()I" } : Jvm.MethodName)) ∈ lw_all := lw_g (lw_at lw_m5 121 rfl) rfl
theorem q1518 : (Jvm.Cond.castable "ThirdEbb$Taking" "java/lang/Object") ∈ lw_tbl := lw_at lw_m7 29 rfl
theorem in_X13 : ∀ w ∈ wsX130, w ∈ lw_all := lw_in wsX130 [1126, 1120, 1122, 1124] (by decide +kernel) (by decide +kernel)

/-! ThirdEbb$Staked -/
set_option maxRecDepth 100000
def RX14 : String := "ThirdEbb$Staked"
abbrev cX14_staked : ByteArray := prog_13_method_3_code
def yX14_staked : MethodName := ⟨RX14, "staked", "()I"⟩
def dkwX14_staked_0 : List UInt8 := [42, 7, 185, 0, 1, 2, 0, 42, 185, 0, 7, 1, 0, 96, 172]
abbrev dktX14_staked_0 : List UInt8 := dkwX14_staked_0 ++ []
theorem dksX14_staked_0 : cX14_staked.data.toList.drop 0 = dktX14_staked_0 := by decide +kernel
theorem dX14_staked_0 : decode cX14_staked 0 = .ok (.aload_n 0, 1) := dk_42 (dk_at dksX14_staked_0 0 rfl rfl)
theorem dX14_staked_1 : decode cX14_staked 1 = .ok (.iconst 4, 1) := dk_7 (dk_at dksX14_staked_0 1 rfl rfl)
theorem dX14_staked_2 : decode cX14_staked 2 = .ok (.invokeinterface 1 2, 5) := by decide +kernel
theorem dX14_staked_7 : decode cX14_staked 7 = .ok (.aload_n 0, 1) := dk_42 (dk_at dksX14_staked_0 7 rfl rfl)
theorem dX14_staked_8 : decode cX14_staked 8 = .ok (.invokeinterface 7 1, 5) := by decide +kernel
theorem dX14_staked_13 : decode cX14_staked 13 = .ok (.iadd, 1) := dk_96 (dk_at dksX14_staked_0 13 rfl rfl)
theorem dX14_staked_14 : decode cX14_staked 14 = .ok (.ireturn, 1) := dk_172 (dk_at dksX14_staked_0 14 rfl rfl)
theorem q1068 : (Jvm.Cond.interfaceMethod "ThirdEbb$Staked" "ThirdEbb$Staked" "staked" "()I") ∈ lw_tbl := lw_at lw_m5 59 rfl
theorem q1069 : (Jvm.Cond.declares ({ cls := "ThirdEbb$Staked", name := "staked", desc := "()I" } : Jvm.MethodName)) ∈ lw_tbl := lw_at lw_m5 60 rfl
theorem q1072 : (Jvm.Cond.instanceMethod ({ cls := "ThirdEbb$Staked", name := "staked", desc := "()I" } : Jvm.MethodName)) ∈ lw_all := lw_g (lw_at lw_m5 63 rfl) rfl
theorem q1073 : (Jvm.Cond.publicMethod ({ cls := "ThirdEbb$Staked", name := "staked", desc := "()I" } : Jvm.MethodName)) ∈ lw_tbl := lw_at lw_m5 64 rfl
theorem q1074 : (Jvm.Cond.code ({ cls := "ThirdEbb$Staked", name := "staked", desc := "()I" } : Jvm.MethodName) prog_13_method_3_code (1 : Nat) (Option.some Jvm.ClassFile.FieldType.int)) ∈ lw_all := lw_g (lw_at lw_m5 65 rfl) rfl
theorem q1075 : (Jvm.Cond.interfaceEntry "ThirdEbb$Staked" (1 : Nat)) ∈ lw_tbl := lw_at lw_m5 66 rfl
theorem q1076 : (Jvm.Cond.methodLink "ThirdEbb$Staked" (1 : Nat) ({ cls := "ThirdEbb$Staked", name := "tracedBy", desc := "(I)I" } : Jvm.MethodName)) ∈ lw_all := lw_g (lw_at lw_m5 67 rfl) rfl
theorem q1077 : (Jvm.Cond.interfaceMethod "ThirdEbb$Staked" "ThirdEbb$Staked" "tracedBy" "(I)I") ∈ lw_tbl := lw_at lw_m5 68 rfl
theorem q1078 : (Jvm.Cond.declares ({ cls := "ThirdEbb$Staked", name := "tracedBy", desc := "(I)I" } : Jvm.MethodName)) ∈ lw_tbl := lw_at lw_m5 69 rfl
theorem q1088 : (Jvm.Cond.interfaceEntry "ThirdEbb$Staked" (7 : Nat)) ∈ lw_tbl := lw_at lw_m5 79 rfl
theorem q1089 : (Jvm.Cond.methodLink "ThirdEbb$Staked" (7 : Nat) ({ cls := "ThirdEbb$Staked", name := "number", desc := "()I" } : Jvm.MethodName)) ∈ lw_all := lw_g (lw_at lw_m5 80 rfl) rfl
theorem q1090 : (Jvm.Cond.interfaceMethod "ThirdEbb$Staked" "ThirdEbb$Staked" "number" "()I") ∈ lw_tbl := lw_at lw_m5 81 rfl
theorem q1091 : (Jvm.Cond.declares ({ cls := "ThirdEbb$Staked", name := "number", desc := "()I" } : Jvm.MethodName)) ∈ lw_tbl := lw_at lw_m5 82 rfl

/-! ThirdEbb$Act -/
set_option maxRecDepth 100000
def RX2 : String := "ThirdEbb$Act"
abbrev cX2_init : ByteArray := prog_2_method_1_code
def yX2_init : MethodName := ⟨RX2, "<init>", "(LThirdEbb;)V"⟩
def dkwX2_init_0 : List UInt8 := [42, 43, 181, 0, 3, 42, 183, 0, 9, 177]
abbrev dktX2_init_0 : List UInt8 := dkwX2_init_0 ++ []
theorem dksX2_init_0 : cX2_init.data.toList.drop 0 = dktX2_init_0 := by decide +kernel
theorem dX2_init_0 : decode cX2_init 0 = .ok (.aload_n 0, 1) := dk_42 (dk_at dksX2_init_0 0 rfl rfl)
theorem dX2_init_1 : decode cX2_init 1 = .ok (.aload_n 1, 1) := dk_43 (dk_at dksX2_init_0 1 rfl rfl)
theorem dX2_init_2 : decode cX2_init 2 = .ok (.putfield 3, 3) := dk_181 0 3 (dk_at dksX2_init_0 2 rfl rfl)
theorem dX2_init_5 : decode cX2_init 5 = .ok (.aload_n 0, 1) := dk_42 (dk_at dksX2_init_0 5 rfl rfl)
theorem dX2_init_6 : decode cX2_init 6 = .ok (.invokespecial 9, 3) := dk_183 0 9 (dk_at dksX2_init_0 6 rfl rfl)
theorem dX2_init_9 : decode cX2_init 9 = .ok (.return_, 1) := dk_177 (dk_at dksX2_init_0 9 rfl rfl)
abbrev cX2_tried : ByteArray := prog_2_method_3_code
def yX2_tried : MethodName := ⟨RX2, "tried", "()I"⟩
def dkwX2_tried_2 : List UInt8 := [6, 182, 0, 25, 172]
abbrev dktX2_tried_2 : List UInt8 := dkwX2_tried_2 ++ []
def dkwX2_tried_1 : List UInt8 := [42, 180, 0, 3, 5, 182, 0, 25, 172, 76, 42, 180, 0, 3, 7, 182, 0, 25, 172, 76, 42, 180, 0, 3]
abbrev dktX2_tried_1 : List UInt8 := dkwX2_tried_1 ++ dktX2_tried_2
def dkwX2_tried_0 : List UInt8 := [42, 180, 0, 3, 3, 181, 0, 15, 42, 182, 0, 19, 172, 76, 42, 180, 0, 3, 4, 182, 0, 25, 172, 76]
abbrev dktX2_tried_0 : List UInt8 := dkwX2_tried_0 ++ dktX2_tried_1
theorem dksX2_tried_0 : cX2_tried.data.toList.drop 0 = dktX2_tried_0 := by decide +kernel
theorem dksX2_tried_1 : cX2_tried.data.toList.drop 24 = dktX2_tried_1 := dk_seg dksX2_tried_0 24 rfl rfl
theorem dksX2_tried_2 : cX2_tried.data.toList.drop 48 = dktX2_tried_2 := dk_seg dksX2_tried_1 24 rfl rfl
theorem dX2_tried_0 : decode cX2_tried 0 = .ok (.aload_n 0, 1) := dk_42 (dk_at dksX2_tried_0 0 rfl rfl)
theorem dX2_tried_1 : decode cX2_tried 1 = .ok (.getfield 3, 3) := dk_180 0 3 (dk_at dksX2_tried_0 1 rfl rfl)
theorem dX2_tried_4 : decode cX2_tried 4 = .ok (.iconst 0, 1) := dk_3 (dk_at dksX2_tried_0 4 rfl rfl)
theorem dX2_tried_5 : decode cX2_tried 5 = .ok (.putfield 15, 3) := dk_181 0 15 (dk_at dksX2_tried_0 5 rfl rfl)
theorem dX2_tried_8 : decode cX2_tried 8 = .ok (.aload_n 0, 1) := dk_42 (dk_at dksX2_tried_0 8 rfl rfl)
theorem dX2_tried_9 : decode cX2_tried 9 = .ok (.invokevirtual 19, 3) := dk_182 0 19 (dk_at dksX2_tried_0 9 rfl rfl)
theorem dX2_tried_12 : decode cX2_tried 12 = .ok (.ireturn, 1) := dk_172 (dk_at dksX2_tried_0 12 rfl rfl)
theorem dX2_tried_13 : decode cX2_tried 13 = .ok (.astore_n 1, 1) := dk_76 (dk_at dksX2_tried_0 13 rfl rfl)
theorem dX2_tried_14 : decode cX2_tried 14 = .ok (.aload_n 0, 1) := dk_42 (dk_at dksX2_tried_0 14 rfl rfl)
theorem dX2_tried_15 : decode cX2_tried 15 = .ok (.getfield 3, 3) := dk_180 0 3 (dk_at dksX2_tried_0 15 rfl rfl)
theorem dX2_tried_18 : decode cX2_tried 18 = .ok (.iconst 1, 1) := dk_4 (dk_at dksX2_tried_0 18 rfl rfl)
theorem dX2_tried_19 : decode cX2_tried 19 = .ok (.invokevirtual 25, 3) := dk_182 0 25 (dk_at dksX2_tried_0 19 rfl rfl)
theorem dX2_tried_22 : decode cX2_tried 22 = .ok (.ireturn, 1) := dk_172 (dk_at dksX2_tried_0 22 rfl rfl)
theorem dX2_tried_23 : decode cX2_tried 23 = .ok (.astore_n 1, 1) := dk_76 (dk_at dksX2_tried_0 23 rfl rfl)
theorem dX2_tried_24 : decode cX2_tried 24 = .ok (.aload_n 0, 1) := dk_42 (dk_at dksX2_tried_1 0 rfl rfl)
theorem dX2_tried_25 : decode cX2_tried 25 = .ok (.getfield 3, 3) := dk_180 0 3 (dk_at dksX2_tried_1 1 rfl rfl)
theorem dX2_tried_28 : decode cX2_tried 28 = .ok (.iconst 2, 1) := dk_5 (dk_at dksX2_tried_1 4 rfl rfl)
theorem dX2_tried_29 : decode cX2_tried 29 = .ok (.invokevirtual 25, 3) := dk_182 0 25 (dk_at dksX2_tried_1 5 rfl rfl)
theorem dX2_tried_32 : decode cX2_tried 32 = .ok (.ireturn, 1) := dk_172 (dk_at dksX2_tried_1 8 rfl rfl)
theorem dX2_tried_33 : decode cX2_tried 33 = .ok (.astore_n 1, 1) := dk_76 (dk_at dksX2_tried_1 9 rfl rfl)
theorem dX2_tried_34 : decode cX2_tried 34 = .ok (.aload_n 0, 1) := dk_42 (dk_at dksX2_tried_1 10 rfl rfl)
theorem dX2_tried_35 : decode cX2_tried 35 = .ok (.getfield 3, 3) := dk_180 0 3 (dk_at dksX2_tried_1 11 rfl rfl)
theorem dX2_tried_38 : decode cX2_tried 38 = .ok (.iconst 4, 1) := dk_7 (dk_at dksX2_tried_1 14 rfl rfl)
theorem dX2_tried_39 : decode cX2_tried 39 = .ok (.invokevirtual 25, 3) := dk_182 0 25 (dk_at dksX2_tried_1 15 rfl rfl)
theorem dX2_tried_42 : decode cX2_tried 42 = .ok (.ireturn, 1) := dk_172 (dk_at dksX2_tried_1 18 rfl rfl)
theorem dX2_tried_43 : decode cX2_tried 43 = .ok (.astore_n 1, 1) := dk_76 (dk_at dksX2_tried_1 19 rfl rfl)
theorem dX2_tried_44 : decode cX2_tried 44 = .ok (.aload_n 0, 1) := dk_42 (dk_at dksX2_tried_1 20 rfl rfl)
theorem dX2_tried_45 : decode cX2_tried 45 = .ok (.getfield 3, 3) := dk_180 0 3 (dk_at dksX2_tried_1 21 rfl rfl)
theorem dX2_tried_48 : decode cX2_tried 48 = .ok (.iconst 3, 1) := dk_6 (dk_at dksX2_tried_2 0 rfl rfl)
theorem dX2_tried_49 : decode cX2_tried 49 = .ok (.invokevirtual 25, 3) := dk_182 0 25 (dk_at dksX2_tried_2 1 rfl rfl)
theorem dX2_tried_52 : decode cX2_tried 52 = .ok (.ireturn, 1) := dk_172 (dk_at dksX2_tried_2 4 rfl rfl)
theorem q55 : (Jvm.Cond.initialized "ThirdEbb$Act") ∈ lw_all := lw_g (lw_at lw_m1 6 rfl) rfl
theorem q134 : (Jvm.Cond.fieldLinkNest "ThirdEbb$Act" (15 : Nat) "ThirdEbb" "fault" "I" "ThirdEbb") ∈ lw_tbl := lw_at lw_m1 85 rfl
theorem q762 : (Jvm.Cond.instanceMethod ({ cls := "ThirdEbb$Act", name := "<init>", desc := "(LThirdEbb;)V" } : Jvm.MethodName)) ∈ lw_all := lw_g (lw_at lw_m3 233 rfl) rfl
theorem q763 : (Jvm.Cond.code ({ cls := "ThirdEbb$Act", name := "<init>", desc := "(LThirdEbb;)V" } : Jvm.MethodName) prog_2_method_1_code (2 : Nat) (Option.none : Option Jvm.ClassFile.FieldType)) ∈ lw_all := lw_g (lw_at lw_m3 234 rfl) rfl
theorem q764 : (Jvm.Cond.methodLink "ThirdEbb$Act" (9 : Nat) ({ cls := "java/lang/Object", name := "<init>", desc := "()V" } : Jvm.MethodName)) ∈ lw_all := lw_g (lw_at lw_m3 235 rfl) rfl
theorem q773 : (Jvm.Cond.fieldLink "ThirdEbb$Act" (3 : Nat) "ThirdEbb$Act" "this$0" "LThirdEbb;") ∈ lw_all := lw_g (lw_at lw_m4 4 rfl) rfl
theorem q787 : (Jvm.Cond.soleField "ThirdEbb$Act" "this$0") ∈ lw_all := lw_g (lw_at lw_m4 18 rfl) rfl
theorem q795 : (Jvm.Cond.declares ({ cls := "ThirdEbb$Act", name := "tried", desc := "()I" } : Jvm.MethodName)) ∈ lw_tbl := lw_at lw_m4 26 rfl
theorem q799 : (Jvm.Cond.instanceMethod ({ cls := "ThirdEbb$Act", name := "tried", desc := "()I" } : Jvm.MethodName)) ∈ lw_all := lw_g (lw_at lw_m4 30 rfl) rfl
theorem q800 : (Jvm.Cond.codeWith ({ cls := "ThirdEbb$Act", name := "tried", desc := "()I" } : Jvm.MethodName) prog_2_method_3_code (2 : Nat) (Option.some Jvm.ClassFile.FieldType.int) [((8 : Nat), (12 : Nat), (13 : Nat), (23 : Nat)), ((8 : Nat), (12 : Nat), (23 : Nat), (29 : Nat)), ((8 : Nat), (12 : Nat), (23 : Nat), (31 : Nat)), ((8 : Nat), (12 : Nat), (33 : Nat), (33 : Nat)), ((8 : Nat), (12 : Nat), (43 : Nat), (35 : Nat))]) ∈ lw_all := lw_g (lw_at lw_m4 31 rfl) rfl
theorem q801 : (Jvm.Cond.classLink "ThirdEbb$Act" (23 : Nat) "java/lang/NullPointerException") ∈ lw_all := lw_g (lw_at lw_m4 32 rfl) rfl
theorem q802 : (Jvm.Cond.classLink "ThirdEbb$Act" (29 : Nat) "java/lang/ClassCastException") ∈ lw_all := lw_g (lw_at lw_m4 33 rfl) rfl
theorem q803 : (Jvm.Cond.classLink "ThirdEbb$Act" (31 : Nat) "java/lang/ArrayStoreException") ∈ lw_all := lw_g (lw_at lw_m4 34 rfl) rfl
theorem q817 : (Jvm.Cond.classLink "ThirdEbb$Act" (33 : Nat) "java/lang/NegativeArraySizeException") ∈ lw_all := lw_g (lw_at lw_m4 48 rfl) rfl
theorem q818 : (Jvm.Cond.classLink "ThirdEbb$Act" (35 : Nat) "java/lang/IndexOutOfBoundsException") ∈ lw_all := lw_g (lw_at lw_m4 49 rfl) rfl
theorem q819 : (Jvm.Cond.methodLink "ThirdEbb$Act" (19 : Nat) ({ cls := "ThirdEbb$Act", name := "done", desc := "()I" } : Jvm.MethodName)) ∈ lw_all := lw_g (lw_at lw_m4 50 rfl) rfl
theorem q820 : (Jvm.Cond.declares ({ cls := "ThirdEbb$Act", name := "done", desc := "()I" } : Jvm.MethodName)) ∈ lw_tbl := lw_at lw_m4 51 rfl
theorem q821 : (Jvm.Cond.sameMethod "ThirdEbb$Act" "ThirdEbb$Act" "done" "()I") ∈ lw_all := lw_g (lw_at lw_m4 52 rfl) rfl
theorem q950 : (Jvm.Cond.methodLinkNest "ThirdEbb$Act" (25 : Nat) ({ cls := "ThirdEbb", name := "fails", desc := "(I)I" } : Jvm.MethodName) "ThirdEbb") ∈ lw_tbl := lw_at lw_m4 181 rfl

/-! ThirdEbb$Looking -/
set_option maxRecDepth 100000
def RX3 : String := "ThirdEbb$Looking"
abbrev cX3_init : ByteArray := prog_8_method_1_code
def yX3_init : MethodName := ⟨RX3, "<init>", "(LThirdEbb;IIII)V"⟩
def dkwX3_init_1 : List UInt8 := [181, 0, 20, 42, 21, 5, 181, 0, 23, 177]
abbrev dktX3_init_1 : List UInt8 := dkwX3_init_1 ++ []
def dkwX3_init_0 : List UInt8 := [42, 43, 181, 0, 1, 42, 43, 183, 0, 7, 42, 28, 181, 0, 13, 42, 29, 181, 0, 17, 42, 21, 4]
abbrev dktX3_init_0 : List UInt8 := dkwX3_init_0 ++ dktX3_init_1
theorem dksX3_init_0 : cX3_init.data.toList.drop 0 = dktX3_init_0 := by decide +kernel
theorem dksX3_init_1 : cX3_init.data.toList.drop 23 = dktX3_init_1 := dk_seg dksX3_init_0 23 rfl rfl
theorem dX3_init_0 : decode cX3_init 0 = .ok (.aload_n 0, 1) := dk_42 (dk_at dksX3_init_0 0 rfl rfl)
theorem dX3_init_1 : decode cX3_init 1 = .ok (.aload_n 1, 1) := dk_43 (dk_at dksX3_init_0 1 rfl rfl)
theorem dX3_init_2 : decode cX3_init 2 = .ok (.putfield 1, 3) := dk_181 0 1 (dk_at dksX3_init_0 2 rfl rfl)
theorem dX3_init_5 : decode cX3_init 5 = .ok (.aload_n 0, 1) := dk_42 (dk_at dksX3_init_0 5 rfl rfl)
theorem dX3_init_6 : decode cX3_init 6 = .ok (.aload_n 1, 1) := dk_43 (dk_at dksX3_init_0 6 rfl rfl)
theorem dX3_init_7 : decode cX3_init 7 = .ok (.invokespecial 7, 3) := dk_183 0 7 (dk_at dksX3_init_0 7 rfl rfl)
theorem dX3_init_10 : decode cX3_init 10 = .ok (.aload_n 0, 1) := dk_42 (dk_at dksX3_init_0 10 rfl rfl)
theorem dX3_init_11 : decode cX3_init 11 = .ok (.iload_n 2, 1) := dk_28 (dk_at dksX3_init_0 11 rfl rfl)
theorem dX3_init_12 : decode cX3_init 12 = .ok (.putfield 13, 3) := dk_181 0 13 (dk_at dksX3_init_0 12 rfl rfl)
theorem dX3_init_15 : decode cX3_init 15 = .ok (.aload_n 0, 1) := dk_42 (dk_at dksX3_init_0 15 rfl rfl)
theorem dX3_init_16 : decode cX3_init 16 = .ok (.iload_n 3, 1) := dk_29 (dk_at dksX3_init_0 16 rfl rfl)
theorem dX3_init_17 : decode cX3_init 17 = .ok (.putfield 17, 3) := dk_181 0 17 (dk_at dksX3_init_0 17 rfl rfl)
theorem dX3_init_20 : decode cX3_init 20 = .ok (.aload_n 0, 1) := dk_42 (dk_at dksX3_init_0 20 rfl rfl)
theorem dX3_init_21 : decode cX3_init 21 = .ok (.iload 4, 2) := dk_21 4 (dk_at dksX3_init_0 21 rfl rfl)
theorem dX3_init_23 : decode cX3_init 23 = .ok (.putfield 20, 3) := dk_181 0 20 (dk_at dksX3_init_1 0 rfl rfl)
theorem dX3_init_26 : decode cX3_init 26 = .ok (.aload_n 0, 1) := dk_42 (dk_at dksX3_init_1 3 rfl rfl)
theorem dX3_init_27 : decode cX3_init 27 = .ok (.iload 5, 2) := dk_21 5 (dk_at dksX3_init_1 4 rfl rfl)
theorem dX3_init_29 : decode cX3_init 29 = .ok (.putfield 23, 3) := dk_181 0 23 (dk_at dksX3_init_1 6 rfl rfl)
theorem dX3_init_32 : decode cX3_init 32 = .ok (.return_, 1) := dk_177 (dk_at dksX3_init_1 9 rfl rfl)
abbrev cX3_done : ByteArray := prog_8_method_3_code
def yX3_done : MethodName := ⟨RX3, "done", "()I"⟩
def dkwX3_done_1 : List UInt8 := [184, 0, 32, 182, 0, 36, 172]
abbrev dktX3_done_1 : List UInt8 := dkwX3_done_1 ++ []
def dkwX3_done_0 : List UInt8 := [42, 42, 180, 0, 1, 42, 180, 0, 13, 182, 0, 26, 42, 180, 0, 17, 42, 180, 0, 20, 42, 180, 0, 23]
abbrev dktX3_done_0 : List UInt8 := dkwX3_done_0 ++ dktX3_done_1
theorem dksX3_done_0 : cX3_done.data.toList.drop 0 = dktX3_done_0 := by decide +kernel
theorem dksX3_done_1 : cX3_done.data.toList.drop 24 = dktX3_done_1 := dk_seg dksX3_done_0 24 rfl rfl
theorem dX3_done_0 : decode cX3_done 0 = .ok (.aload_n 0, 1) := dk_42 (dk_at dksX3_done_0 0 rfl rfl)
theorem dX3_done_1 : decode cX3_done 1 = .ok (.aload_n 0, 1) := dk_42 (dk_at dksX3_done_0 1 rfl rfl)
theorem dX3_done_2 : decode cX3_done 2 = .ok (.getfield 1, 3) := dk_180 0 1 (dk_at dksX3_done_0 2 rfl rfl)
theorem dX3_done_5 : decode cX3_done 5 = .ok (.aload_n 0, 1) := dk_42 (dk_at dksX3_done_0 5 rfl rfl)
theorem dX3_done_6 : decode cX3_done 6 = .ok (.getfield 13, 3) := dk_180 0 13 (dk_at dksX3_done_0 6 rfl rfl)
theorem dX3_done_9 : decode cX3_done 9 = .ok (.invokevirtual 26, 3) := dk_182 0 26 (dk_at dksX3_done_0 9 rfl rfl)
theorem dX3_done_12 : decode cX3_done 12 = .ok (.aload_n 0, 1) := dk_42 (dk_at dksX3_done_0 12 rfl rfl)
theorem dX3_done_13 : decode cX3_done 13 = .ok (.getfield 17, 3) := dk_180 0 17 (dk_at dksX3_done_0 13 rfl rfl)
theorem dX3_done_16 : decode cX3_done 16 = .ok (.aload_n 0, 1) := dk_42 (dk_at dksX3_done_0 16 rfl rfl)
theorem dX3_done_17 : decode cX3_done 17 = .ok (.getfield 20, 3) := dk_180 0 20 (dk_at dksX3_done_0 17 rfl rfl)
theorem dX3_done_20 : decode cX3_done 20 = .ok (.aload_n 0, 1) := dk_42 (dk_at dksX3_done_0 20 rfl rfl)
theorem dX3_done_21 : decode cX3_done 21 = .ok (.getfield 23, 3) := dk_180 0 23 (dk_at dksX3_done_0 21 rfl rfl)
theorem dX3_done_24 : decode cX3_done 24 = .ok (.invokestatic 32, 3) := dk_184 0 32 (dk_at dksX3_done_1 0 rfl rfl)
theorem dX3_done_27 : decode cX3_done 27 = .ok (.invokevirtual 36, 3) := dk_182 0 36 (dk_at dksX3_done_1 3 rfl rfl)
theorem dX3_done_30 : decode cX3_done 30 = .ok (.ireturn, 1) := dk_172 (dk_at dksX3_done_1 6 rfl rfl)
theorem q56 : (Jvm.Cond.initialized "ThirdEbb$Looking") ∈ lw_all := lw_g (lw_at lw_m1 7 rfl) rfl
theorem q759 : (Jvm.Cond.instanceMethod ({ cls := "ThirdEbb$Looking", name := "<init>", desc := "(LThirdEbb;IIII)V" } : Jvm.MethodName)) ∈ lw_all := lw_g (lw_at lw_m3 230 rfl) rfl
theorem q760 : (Jvm.Cond.code ({ cls := "ThirdEbb$Looking", name := "<init>", desc := "(LThirdEbb;IIII)V" } : Jvm.MethodName) prog_8_method_1_code (6 : Nat) (Option.none : Option Jvm.ClassFile.FieldType)) ∈ lw_all := lw_g (lw_at lw_m3 231 rfl) rfl
theorem q761 : (Jvm.Cond.methodLinkNest "ThirdEbb$Looking" (7 : Nat) ({ cls := "ThirdEbb$Act", name := "<init>", desc := "(LThirdEbb;)V" } : Jvm.MethodName) "ThirdEbb") ∈ lw_tbl := lw_at lw_m3 232 rfl
theorem q766 : (Jvm.Cond.fieldLink "ThirdEbb$Looking" (13 : Nat) "ThirdEbb$Looking" "sheet" "I") ∈ lw_all := lw_g (lw_at lw_m3 237 rfl) rfl
theorem q768 : (Jvm.Cond.fieldLink "ThirdEbb$Looking" (17 : Nat) "ThirdEbb$Looking" "sort" "I") ∈ lw_all := lw_g (lw_at lw_m3 239 rfl) rfl
theorem q770 : (Jvm.Cond.fieldLink "ThirdEbb$Looking" (20 : Nat) "ThirdEbb$Looking" "i" "I") ∈ lw_all := lw_g (lw_at lw_m4 1 rfl) rfl
theorem q771 : (Jvm.Cond.fieldLink "ThirdEbb$Looking" (23 : Nat) "ThirdEbb$Looking" "n" "I") ∈ lw_all := lw_g (lw_at lw_m4 2 rfl) rfl
theorem q772 : (Jvm.Cond.fieldLink "ThirdEbb$Looking" (1 : Nat) "ThirdEbb$Looking" "this$0" "LThirdEbb;") ∈ lw_all := lw_g (lw_at lw_m4 3 rfl) rfl
theorem q777 : (Jvm.Cond.soleField "ThirdEbb$Looking" "sheet") ∈ lw_all := lw_g (lw_at lw_m4 8 rfl) rfl
theorem q779 : (Jvm.Cond.soleField "ThirdEbb$Looking" "sort") ∈ lw_all := lw_g (lw_at lw_m4 10 rfl) rfl
theorem q781 : (Jvm.Cond.soleField "ThirdEbb$Looking" "i") ∈ lw_all := lw_g (lw_at lw_m4 12 rfl) rfl
theorem q783 : (Jvm.Cond.soleField "ThirdEbb$Looking" "n") ∈ lw_all := lw_g (lw_at lw_m4 14 rfl) rfl
theorem q785 : (Jvm.Cond.soleField "ThirdEbb$Looking" "this$0") ∈ lw_all := lw_g (lw_at lw_m4 16 rfl) rfl
theorem q794 : (Jvm.Cond.sameMethod "ThirdEbb$Looking" "ThirdEbb$Act" "tried" "()I") ∈ lw_all := lw_g (lw_at lw_m4 25 rfl) rfl
theorem q823 : (Jvm.Cond.instanceMethod ({ cls := "ThirdEbb$Looking", name := "done", desc := "()I" } : Jvm.MethodName)) ∈ lw_all := lw_g (lw_at lw_m4 54 rfl) rfl
theorem q824 : (Jvm.Cond.code ({ cls := "ThirdEbb$Looking", name := "done", desc := "()I" } : Jvm.MethodName) prog_8_method_3_code (1 : Nat) (Option.some Jvm.ClassFile.FieldType.int)) ∈ lw_all := lw_g (lw_at lw_m4 55 rfl) rfl
theorem q825 : (Jvm.Cond.methodLinkNest "ThirdEbb$Looking" (26 : Nat) ({ cls := "ThirdEbb", name := "rowIn", desc := "(I)Ljava/lang/Object;" } : Jvm.MethodName) "ThirdEbb") ∈ lw_tbl := lw_at lw_m4 56 rfl
theorem q826 : (Jvm.Cond.methodLinkNest "ThirdEbb$Looking" (32 : Nat) ({ cls := "ThirdEbb", name := "cellsOf", desc := "(Ljava/lang/Object;III)[I" } : Jvm.MethodName) "ThirdEbb") ∈ lw_tbl := lw_at lw_m4 57 rfl
theorem q847 : (Jvm.Cond.methodLink "ThirdEbb$Looking" (36 : Nat) ({ cls := "ThirdEbb$Looking", name := "look", desc := "([I)I" } : Jvm.MethodName)) ∈ lw_all := lw_g (lw_at lw_m4 78 rfl) rfl
theorem q848 : (Jvm.Cond.declares ({ cls := "ThirdEbb$Looking", name := "look", desc := "([I)I" } : Jvm.MethodName)) ∈ lw_tbl := lw_at lw_m4 79 rfl
theorem q849 : (Jvm.Cond.sameMethod "ThirdEbb$Looking" "ThirdEbb$Looking" "look" "([I)I") ∈ lw_all := lw_g (lw_at lw_m4 80 rfl) rfl

/-! ThirdEbb$Filling -/
set_option maxRecDepth 100000
def RX4 : String := "ThirdEbb$Filling"
def TX4 : u_T := fun k => match k with
  | 0 => ("ThirdEbb$Looking", "sheet", "I", true)
  | 1 => ("ThirdEbb$Looking", "sort", "I", true)
  | 2 => ("ThirdEbb$Looking", "i", "I", true)
  | 3 => ("ThirdEbb$Looking", "n", "I", true)
  | 4 => ("ThirdEbb$Looking", "this$0", "LThirdEbb;", true)
  | 5 => ("ThirdEbb$Act", "this$0", "LThirdEbb;", true)
  | _ => ("ThirdEbb$Filling", "this$0", "LThirdEbb;", true)
def tyX4 : Nat → FieldType := fun k => match k with
  | 0 => .int
  | 1 => .int
  | 2 => .int
  | 3 => .int
  | 4 => .object "ThirdEbb"
  | 5 => .object "ThirdEbb"
  | _ => .object "ThirdEbb"
abbrev wsX40 : List Cond := u_ws RX4 TX4 7
-- two fields of one name: no nmX4
theorem tyX4_ok : ∀ k, k < 7 → parseFieldDescriptor (TX4 k).2.2.1 = some (tyX4 k) := by decide +kernel
abbrev cX4_init : ByteArray := prog_7_method_1_code
def yX4_init : MethodName := ⟨RX4, "<init>", "(LThirdEbb;IIII)V"⟩
def dkwX4_init_0 : List UInt8 := [42, 43, 181, 0, 1, 42, 43, 28, 29, 21, 4, 21, 5, 183, 0, 7, 177]
abbrev dktX4_init_0 : List UInt8 := dkwX4_init_0 ++ []
theorem dksX4_init_0 : cX4_init.data.toList.drop 0 = dktX4_init_0 := by decide +kernel
theorem dX4_init_0 : decode cX4_init 0 = .ok (.aload_n 0, 1) := dk_42 (dk_at dksX4_init_0 0 rfl rfl)
theorem dX4_init_1 : decode cX4_init 1 = .ok (.aload_n 1, 1) := dk_43 (dk_at dksX4_init_0 1 rfl rfl)
theorem dX4_init_2 : decode cX4_init 2 = .ok (.putfield 1, 3) := dk_181 0 1 (dk_at dksX4_init_0 2 rfl rfl)
theorem dX4_init_5 : decode cX4_init 5 = .ok (.aload_n 0, 1) := dk_42 (dk_at dksX4_init_0 5 rfl rfl)
theorem dX4_init_6 : decode cX4_init 6 = .ok (.aload_n 1, 1) := dk_43 (dk_at dksX4_init_0 6 rfl rfl)
theorem dX4_init_7 : decode cX4_init 7 = .ok (.iload_n 2, 1) := dk_28 (dk_at dksX4_init_0 7 rfl rfl)
theorem dX4_init_8 : decode cX4_init 8 = .ok (.iload_n 3, 1) := dk_29 (dk_at dksX4_init_0 8 rfl rfl)
theorem dX4_init_9 : decode cX4_init 9 = .ok (.iload 4, 2) := dk_21 4 (dk_at dksX4_init_0 9 rfl rfl)
theorem dX4_init_11 : decode cX4_init 11 = .ok (.iload 5, 2) := dk_21 5 (dk_at dksX4_init_0 11 rfl rfl)
theorem dX4_init_13 : decode cX4_init 13 = .ok (.invokespecial 7, 3) := dk_183 0 7 (dk_at dksX4_init_0 13 rfl rfl)
theorem dX4_init_16 : decode cX4_init 16 = .ok (.return_, 1) := dk_177 (dk_at dksX4_init_0 16 rfl rfl)
abbrev cX4_look : ByteArray := prog_7_method_2_code
def yX4_look : MethodName := ⟨RX4, "look", "([I)I"⟩
def dkwX4_look_0 : List UInt8 := [42, 180, 0, 1, 43, 182, 0, 13, 172]
abbrev dktX4_look_0 : List UInt8 := dkwX4_look_0 ++ []
theorem dksX4_look_0 : cX4_look.data.toList.drop 0 = dktX4_look_0 := by decide +kernel
theorem dX4_look_0 : decode cX4_look 0 = .ok (.aload_n 0, 1) := dk_42 (dk_at dksX4_look_0 0 rfl rfl)
theorem dX4_look_1 : decode cX4_look 1 = .ok (.getfield 1, 3) := dk_180 0 1 (dk_at dksX4_look_0 1 rfl rfl)
theorem dX4_look_4 : decode cX4_look 4 = .ok (.aload_n 1, 1) := dk_43 (dk_at dksX4_look_0 4 rfl rfl)
theorem dX4_look_5 : decode cX4_look 5 = .ok (.invokevirtual 13, 3) := dk_182 0 13 (dk_at dksX4_look_0 5 rfl rfl)
theorem dX4_look_8 : decode cX4_look 8 = .ok (.ireturn, 1) := dk_172 (dk_at dksX4_look_0 8 rfl rfl)
theorem q57 : (Jvm.Cond.initialized "ThirdEbb$Filling") ∈ lw_all := lw_g (lw_at lw_m1 8 rfl) rfl
theorem q372 : (Jvm.Cond.selects "ThirdEbb$Filling" ({ cls := "java/lang/Object", name := "getClass", desc := "()Ljava/lang/Class;" } : Jvm.MethodName) ({ cls := "java/lang/Object", name := "getClass", desc := "()Ljava/lang/Class;" } : Jvm.MethodName)) ∈ lw_all := lw_g (lw_at lw_m2 83 rfl) rfl
theorem q754 : (Jvm.Cond.instantiable "ThirdEbb$Filling" (7 : Nat)) ∈ lw_all := lw_g (lw_at lw_m3 225 rfl) rfl
theorem q756 : (Jvm.Cond.instanceMethod ({ cls := "ThirdEbb$Filling", name := "<init>", desc := "(LThirdEbb;IIII)V" } : Jvm.MethodName)) ∈ lw_all := lw_g (lw_at lw_m3 227 rfl) rfl
theorem q757 : (Jvm.Cond.code ({ cls := "ThirdEbb$Filling", name := "<init>", desc := "(LThirdEbb;IIII)V" } : Jvm.MethodName) prog_7_method_1_code (6 : Nat) (Option.none : Option Jvm.ClassFile.FieldType)) ∈ lw_all := lw_g (lw_at lw_m3 228 rfl) rfl
theorem q758 : (Jvm.Cond.methodLink "ThirdEbb$Filling" (7 : Nat) ({ cls := "ThirdEbb$Looking", name := "<init>", desc := "(LThirdEbb;IIII)V" } : Jvm.MethodName)) ∈ lw_all := lw_g (lw_at lw_m3 229 rfl) rfl
theorem q765 : (Jvm.Cond.fieldLink "ThirdEbb$Filling" (1 : Nat) "ThirdEbb$Filling" "this$0" "LThirdEbb;") ∈ lw_all := lw_g (lw_at lw_m3 236 rfl) rfl
theorem q774 : (Jvm.Cond.laysFinal "ThirdEbb$Filling" "ThirdEbb$Filling" "this$0" "LThirdEbb;") ∈ lw_all := lw_g (lw_at lw_m4 5 rfl) rfl
theorem q775 : (Jvm.Cond.soleField "ThirdEbb$Filling" "this$0") ∈ lw_all := lw_g (lw_at lw_m4 6 rfl) rfl
theorem q776 : (Jvm.Cond.laysFinal "ThirdEbb$Filling" "ThirdEbb$Looking" "sheet" "I") ∈ lw_all := lw_g (lw_at lw_m4 7 rfl) rfl
theorem q778 : (Jvm.Cond.laysFinal "ThirdEbb$Filling" "ThirdEbb$Looking" "sort" "I") ∈ lw_all := lw_g (lw_at lw_m4 9 rfl) rfl
theorem q780 : (Jvm.Cond.laysFinal "ThirdEbb$Filling" "ThirdEbb$Looking" "i" "I") ∈ lw_all := lw_g (lw_at lw_m4 11 rfl) rfl
theorem q782 : (Jvm.Cond.laysFinal "ThirdEbb$Filling" "ThirdEbb$Looking" "n" "I") ∈ lw_all := lw_g (lw_at lw_m4 13 rfl) rfl
theorem q784 : (Jvm.Cond.laysFinal "ThirdEbb$Filling" "ThirdEbb$Looking" "this$0" "LThirdEbb;") ∈ lw_all := lw_g (lw_at lw_m4 15 rfl) rfl
theorem q786 : (Jvm.Cond.laysFinal "ThirdEbb$Filling" "ThirdEbb$Act" "this$0" "LThirdEbb;") ∈ lw_all := lw_g (lw_at lw_m4 17 rfl) rfl
theorem q788 : (Jvm.Cond.superclass "ThirdEbb$Filling" "ThirdEbb$Looking") ∈ lw_all := lw_g (lw_at lw_m4 19 rfl) rfl
theorem q798 : (Jvm.Cond.selects "ThirdEbb$Filling" ({ cls := "ThirdEbb$Looking", name := "tried", desc := "()I" } : Jvm.MethodName) ({ cls := "ThirdEbb$Act", name := "tried", desc := "()I" } : Jvm.MethodName)) ∈ lw_all := lw_g (lw_at lw_m4 29 rfl) rfl
theorem q863 : (Jvm.Cond.selects "ThirdEbb$Filling" ({ cls := "ThirdEbb$Looking", name := "look", desc := "([I)I" } : Jvm.MethodName) ({ cls := "ThirdEbb$Filling", name := "look", desc := "([I)I" } : Jvm.MethodName)) ∈ lw_all := lw_g (lw_at lw_m4 94 rfl) rfl
theorem q864 : (Jvm.Cond.instanceMethod ({ cls := "ThirdEbb$Filling", name := "look", desc := "([I)I" } : Jvm.MethodName)) ∈ lw_all := lw_g (lw_at lw_m4 95 rfl) rfl
theorem q865 : (Jvm.Cond.code ({ cls := "ThirdEbb$Filling", name := "look", desc := "([I)I" } : Jvm.MethodName) prog_7_method_2_code (2 : Nat) (Option.some Jvm.ClassFile.FieldType.int)) ∈ lw_all := lw_g (lw_at lw_m4 96 rfl) rfl
theorem q866 : (Jvm.Cond.methodLinkNest "ThirdEbb$Filling" (13 : Nat) ({ cls := "ThirdEbb", name := "newSea", desc := "([I)I" } : Jvm.MethodName) "ThirdEbb") ∈ lw_tbl := lw_at lw_m4 97 rfl
theorem q944 : (Jvm.Cond.selects "ThirdEbb$Filling" ({ cls := "ThirdEbb$Act", name := "done", desc := "()I" } : Jvm.MethodName) ({ cls := "ThirdEbb$Looking", name := "done", desc := "()I" } : Jvm.MethodName)) ∈ lw_all := lw_g (lw_at lw_m4 175 rfl) rfl
theorem q1504 : (Jvm.Cond.castable "ThirdEbb$Filling" "java/lang/Object") ∈ lw_tbl := lw_at lw_m7 15 rfl
theorem in_X4 : ∀ w ∈ wsX40, w ∈ lw_all := lw_in wsX40 [776, 778, 780, 782, 784, 786, 774] (by decide +kernel) (by decide +kernel)

/-! ThirdEbb$Moon -/
set_option maxRecDepth 100000
def RX5 : String := "ThirdEbb$Moon"
def TX5 : u_T := fun k => match k with
  | 0 => ("ThirdEbb$Moon", "month", "I", true)
  | 1 => ("ThirdEbb$Moon", "pull", "I", true)
  | _ => ("ThirdEbb$Moon", "age", "I", true)
def tyX5 : Nat → FieldType := fun k => match k with
  | 0 => .int
  | 1 => .int
  | _ => .int
abbrev wsX50 : List Cond := u_ws RX5 TX5 3
theorem nmX5 : ∀ a, a < 3 → ∀ b, b < 3 → a ≠ b → (TX5 a).2.1 ≠ (TX5 b).2.1 := by decide +kernel
theorem tyX5_ok : ∀ k, k < 3 → parseFieldDescriptor (TX5 k).2.2.1 = some (tyX5 k) := by decide +kernel
abbrev cX5_phase : ByteArray := prog_9_method_2_code
def yX5_phase : MethodName := ⟨RX5, "phase", "(I)I"⟩
def dkwX5_phase_0 : List UInt8 := [27, 42, 180, 0, 16, 96, 42, 180, 0, 7, 112, 172]
abbrev dktX5_phase_0 : List UInt8 := dkwX5_phase_0 ++ []
theorem dksX5_phase_0 : cX5_phase.data.toList.drop 0 = dktX5_phase_0 := by decide +kernel
theorem dX5_phase_0 : decode cX5_phase 0 = .ok (.iload_n 1, 1) := dk_27 (dk_at dksX5_phase_0 0 rfl rfl)
theorem dX5_phase_1 : decode cX5_phase 1 = .ok (.aload_n 0, 1) := dk_42 (dk_at dksX5_phase_0 1 rfl rfl)
theorem dX5_phase_2 : decode cX5_phase 2 = .ok (.getfield 16, 3) := dk_180 0 16 (dk_at dksX5_phase_0 2 rfl rfl)
theorem dX5_phase_5 : decode cX5_phase 5 = .ok (.iadd, 1) := dk_96 (dk_at dksX5_phase_0 5 rfl rfl)
theorem dX5_phase_6 : decode cX5_phase 6 = .ok (.aload_n 0, 1) := dk_42 (dk_at dksX5_phase_0 6 rfl rfl)
theorem dX5_phase_7 : decode cX5_phase 7 = .ok (.getfield 7, 3) := dk_180 0 7 (dk_at dksX5_phase_0 7 rfl rfl)
theorem dX5_phase_10 : decode cX5_phase 10 = .ok (.irem, 1) := dk_112 (dk_at dksX5_phase_0 10 rfl rfl)
theorem dX5_phase_11 : decode cX5_phase 11 = .ok (.ireturn, 1) := dk_172 (dk_at dksX5_phase_0 11 rfl rfl)
abbrev cX5_draws : ByteArray := prog_9_method_3_code
def yX5_draws : MethodName := ⟨RX5, "draws", "(I)I"⟩
def dkwX5_draws_0 : List UInt8 := [42, 27, 182, 0, 19, 61, 42, 180, 0, 13, 28, 42, 180, 0, 7, 28, 100, 184, 0, 23, 104, 172]
abbrev dktX5_draws_0 : List UInt8 := dkwX5_draws_0 ++ []
theorem dksX5_draws_0 : cX5_draws.data.toList.drop 0 = dktX5_draws_0 := by decide +kernel
theorem dX5_draws_0 : decode cX5_draws 0 = .ok (.aload_n 0, 1) := dk_42 (dk_at dksX5_draws_0 0 rfl rfl)
theorem dX5_draws_1 : decode cX5_draws 1 = .ok (.iload_n 1, 1) := dk_27 (dk_at dksX5_draws_0 1 rfl rfl)
theorem dX5_draws_2 : decode cX5_draws 2 = .ok (.invokevirtual 19, 3) := dk_182 0 19 (dk_at dksX5_draws_0 2 rfl rfl)
theorem dX5_draws_5 : decode cX5_draws 5 = .ok (.istore_n 2, 1) := dk_61 (dk_at dksX5_draws_0 5 rfl rfl)
theorem dX5_draws_6 : decode cX5_draws 6 = .ok (.aload_n 0, 1) := dk_42 (dk_at dksX5_draws_0 6 rfl rfl)
theorem dX5_draws_7 : decode cX5_draws 7 = .ok (.getfield 13, 3) := dk_180 0 13 (dk_at dksX5_draws_0 7 rfl rfl)
theorem dX5_draws_10 : decode cX5_draws 10 = .ok (.iload_n 2, 1) := dk_28 (dk_at dksX5_draws_0 10 rfl rfl)
theorem dX5_draws_11 : decode cX5_draws 11 = .ok (.aload_n 0, 1) := dk_42 (dk_at dksX5_draws_0 11 rfl rfl)
theorem dX5_draws_12 : decode cX5_draws 12 = .ok (.getfield 7, 3) := dk_180 0 7 (dk_at dksX5_draws_0 12 rfl rfl)
theorem dX5_draws_15 : decode cX5_draws 15 = .ok (.iload_n 2, 1) := dk_28 (dk_at dksX5_draws_0 15 rfl rfl)
theorem dX5_draws_16 : decode cX5_draws 16 = .ok (.isub, 1) := dk_100 (dk_at dksX5_draws_0 16 rfl rfl)
theorem dX5_draws_17 : decode cX5_draws 17 = .ok (.invokestatic 23, 3) := dk_184 0 23 (dk_at dksX5_draws_0 17 rfl rfl)
theorem dX5_draws_20 : decode cX5_draws 20 = .ok (.imul, 1) := dk_104 (dk_at dksX5_draws_0 20 rfl rfl)
theorem dX5_draws_21 : decode cX5_draws 21 = .ok (.ireturn, 1) := dk_172 (dk_at dksX5_draws_0 21 rfl rfl)
abbrev cX5_init : ByteArray := prog_9_method_1_code
def yX5_init : MethodName := ⟨RX5, "<init>", "(III)V"⟩
def dkwX5_init_0 : List UInt8 := [42, 183, 0, 1, 42, 27, 181, 0, 7, 42, 28, 181, 0, 13, 42, 29, 181, 0, 16, 177]
abbrev dktX5_init_0 : List UInt8 := dkwX5_init_0 ++ []
theorem dksX5_init_0 : cX5_init.data.toList.drop 0 = dktX5_init_0 := by decide +kernel
theorem dX5_init_0 : decode cX5_init 0 = .ok (.aload_n 0, 1) := dk_42 (dk_at dksX5_init_0 0 rfl rfl)
theorem dX5_init_1 : decode cX5_init 1 = .ok (.invokespecial 1, 3) := dk_183 0 1 (dk_at dksX5_init_0 1 rfl rfl)
theorem dX5_init_4 : decode cX5_init 4 = .ok (.aload_n 0, 1) := dk_42 (dk_at dksX5_init_0 4 rfl rfl)
theorem dX5_init_5 : decode cX5_init 5 = .ok (.iload_n 1, 1) := dk_27 (dk_at dksX5_init_0 5 rfl rfl)
theorem dX5_init_6 : decode cX5_init 6 = .ok (.putfield 7, 3) := dk_181 0 7 (dk_at dksX5_init_0 6 rfl rfl)
theorem dX5_init_9 : decode cX5_init 9 = .ok (.aload_n 0, 1) := dk_42 (dk_at dksX5_init_0 9 rfl rfl)
theorem dX5_init_10 : decode cX5_init 10 = .ok (.iload_n 2, 1) := dk_28 (dk_at dksX5_init_0 10 rfl rfl)
theorem dX5_init_11 : decode cX5_init 11 = .ok (.putfield 13, 3) := dk_181 0 13 (dk_at dksX5_init_0 11 rfl rfl)
theorem dX5_init_14 : decode cX5_init 14 = .ok (.aload_n 0, 1) := dk_42 (dk_at dksX5_init_0 14 rfl rfl)
theorem dX5_init_15 : decode cX5_init 15 = .ok (.iload_n 3, 1) := dk_29 (dk_at dksX5_init_0 15 rfl rfl)
theorem dX5_init_16 : decode cX5_init 16 = .ok (.putfield 16, 3) := dk_181 0 16 (dk_at dksX5_init_0 16 rfl rfl)
theorem dX5_init_19 : decode cX5_init 19 = .ok (.return_, 1) := dk_177 (dk_at dksX5_init_0 19 rfl rfl)
theorem q71 : (Jvm.Cond.initialized "ThirdEbb$Moon") ∈ lw_all := lw_g (lw_at lw_m1 22 rfl) rfl
theorem q217 : (Jvm.Cond.instanceMethod ({ cls := "ThirdEbb$Moon", name := "phase", desc := "(I)I" } : Jvm.MethodName)) ∈ lw_all := lw_g (lw_at lw_m1 168 rfl) rfl
theorem q218 : (Jvm.Cond.selects "ThirdEbb$Moon" ({ cls := "ThirdEbb$Moon", name := "phase", desc := "(I)I" } : Jvm.MethodName) ({ cls := "ThirdEbb$Moon", name := "phase", desc := "(I)I" } : Jvm.MethodName)) ∈ lw_all := lw_g (lw_at lw_m1 169 rfl) rfl
theorem q219 : (Jvm.Cond.code ({ cls := "ThirdEbb$Moon", name := "phase", desc := "(I)I" } : Jvm.MethodName) prog_9_method_2_code (2 : Nat) (Option.some Jvm.ClassFile.FieldType.int)) ∈ lw_all := lw_g (lw_at lw_m1 170 rfl) rfl
theorem q229 : (Jvm.Cond.instanceMethod ({ cls := "ThirdEbb$Moon", name := "draws", desc := "(I)I" } : Jvm.MethodName)) ∈ lw_all := lw_g (lw_at lw_m1 180 rfl) rfl
theorem q230 : (Jvm.Cond.selects "ThirdEbb$Moon" ({ cls := "ThirdEbb$Moon", name := "draws", desc := "(I)I" } : Jvm.MethodName) ({ cls := "ThirdEbb$Moon", name := "draws", desc := "(I)I" } : Jvm.MethodName)) ∈ lw_all := lw_g (lw_at lw_m1 181 rfl) rfl
theorem q231 : (Jvm.Cond.code ({ cls := "ThirdEbb$Moon", name := "draws", desc := "(I)I" } : Jvm.MethodName) prog_9_method_3_code (3 : Nat) (Option.some Jvm.ClassFile.FieldType.int)) ∈ lw_all := lw_g (lw_at lw_m1 182 rfl) rfl
theorem q232 : (Jvm.Cond.methodLink "ThirdEbb$Moon" (19 : Nat) ({ cls := "ThirdEbb$Moon", name := "phase", desc := "(I)I" } : Jvm.MethodName)) ∈ lw_all := lw_g (lw_at lw_m1 183 rfl) rfl
theorem q233 : (Jvm.Cond.methodLink "ThirdEbb$Moon" (23 : Nat) ({ cls := "java/lang/Math", name := "min", desc := "(II)I" } : Jvm.MethodName)) ∈ lw_all := lw_g (lw_at lw_m1 184 rfl) rfl
theorem q373 : (Jvm.Cond.selects "ThirdEbb$Moon" ({ cls := "java/lang/Object", name := "getClass", desc := "()Ljava/lang/Class;" } : Jvm.MethodName) ({ cls := "java/lang/Object", name := "getClass", desc := "()Ljava/lang/Class;" } : Jvm.MethodName)) ∈ lw_all := lw_g (lw_at lw_m2 84 rfl) rfl
theorem q891 : (Jvm.Cond.instantiable "ThirdEbb$Moon" (3 : Nat)) ∈ lw_all := lw_g (lw_at lw_m4 122 rfl) rfl
theorem q893 : (Jvm.Cond.instanceMethod ({ cls := "ThirdEbb$Moon", name := "<init>", desc := "(III)V" } : Jvm.MethodName)) ∈ lw_all := lw_g (lw_at lw_m4 124 rfl) rfl
theorem q894 : (Jvm.Cond.code ({ cls := "ThirdEbb$Moon", name := "<init>", desc := "(III)V" } : Jvm.MethodName) prog_9_method_1_code (4 : Nat) (Option.none : Option Jvm.ClassFile.FieldType)) ∈ lw_all := lw_g (lw_at lw_m4 125 rfl) rfl
theorem q895 : (Jvm.Cond.methodLink "ThirdEbb$Moon" (1 : Nat) ({ cls := "java/lang/Object", name := "<init>", desc := "()V" } : Jvm.MethodName)) ∈ lw_all := lw_g (lw_at lw_m4 126 rfl) rfl
theorem q896 : (Jvm.Cond.fieldLink "ThirdEbb$Moon" (7 : Nat) "ThirdEbb$Moon" "month" "I") ∈ lw_all := lw_g (lw_at lw_m4 127 rfl) rfl
theorem q898 : (Jvm.Cond.fieldLink "ThirdEbb$Moon" (13 : Nat) "ThirdEbb$Moon" "pull" "I") ∈ lw_all := lw_g (lw_at lw_m4 129 rfl) rfl
theorem q900 : (Jvm.Cond.fieldLink "ThirdEbb$Moon" (16 : Nat) "ThirdEbb$Moon" "age" "I") ∈ lw_all := lw_g (lw_at lw_m4 131 rfl) rfl
theorem q902 : (Jvm.Cond.laysFinal "ThirdEbb$Moon" "ThirdEbb$Moon" "month" "I") ∈ lw_all := lw_g (lw_at lw_m4 133 rfl) rfl
theorem q903 : (Jvm.Cond.soleField "ThirdEbb$Moon" "month") ∈ lw_all := lw_g (lw_at lw_m4 134 rfl) rfl
theorem q904 : (Jvm.Cond.laysFinal "ThirdEbb$Moon" "ThirdEbb$Moon" "pull" "I") ∈ lw_all := lw_g (lw_at lw_m4 135 rfl) rfl
theorem q905 : (Jvm.Cond.soleField "ThirdEbb$Moon" "pull") ∈ lw_all := lw_g (lw_at lw_m4 136 rfl) rfl
theorem q906 : (Jvm.Cond.laysFinal "ThirdEbb$Moon" "ThirdEbb$Moon" "age" "I") ∈ lw_all := lw_g (lw_at lw_m4 137 rfl) rfl
theorem q907 : (Jvm.Cond.soleField "ThirdEbb$Moon" "age") ∈ lw_all := lw_g (lw_at lw_m4 138 rfl) rfl
theorem q908 : (Jvm.Cond.superclass "ThirdEbb$Moon" "java/lang/Object") ∈ lw_all := lw_g (lw_at lw_m4 139 rfl) rfl
theorem q1511 : (Jvm.Cond.castable "ThirdEbb$Moon" "java/lang/Object") ∈ lw_tbl := lw_at lw_m7 22 rfl
theorem in_X5 : ∀ w ∈ wsX50, w ∈ lw_all := lw_in wsX50 [902, 904, 906] (by decide +kernel) (by decide +kernel)

/-! ThirdEbb$Soft -/
set_option maxRecDepth 100000
def RX6 : String := "ThirdEbb$Soft"
def TX6 : u_T := fun k => match k with
  | 0 => ("ThirdEbb$Soft", "number", "I", true)
  | 1 => ("ThirdEbb$Soft", "a", "I", true)
  | 2 => ("ThirdEbb$Soft", "b", "I", true)
  | 3 => ("ThirdEbb$Soft", "bed", "I", true)
  | 4 => ("ThirdEbb$Soft", "length", "I", true)
  | 5 => ("ThirdEbb$Soft", "mended", "I", false)
  | _ => ("ThirdEbb$Soft", "this$0", "LThirdEbb;", true)
def tyX6 : Nat → FieldType := fun k => match k with
  | 0 => .int
  | 1 => .int
  | 2 => .int
  | 3 => .int
  | 4 => .int
  | 5 => .int
  | _ => .object "ThirdEbb"
abbrev wsX60 : List Cond := u_ws RX6 TX6 7
theorem nmX6 : ∀ a, a < 7 → ∀ b, b < 7 → a ≠ b → (TX6 a).2.1 ≠ (TX6 b).2.1 := by decide +kernel
theorem tyX6_ok : ∀ k, k < 7 → parseFieldDescriptor (TX6 k).2.2.1 = some (tyX6 k) := by decide +kernel
abbrev cX6_init : ByteArray := prog_12_method_1_code
def yX6_init : MethodName := ⟨RX6, "<init>", "(LThirdEbb;IIIII)V"⟩
def dkwX6_init_1 : List UInt8 := [181, 0, 22, 42, 21, 5, 181, 0, 25, 42, 21, 6, 181, 0, 28, 177]
abbrev dktX6_init_1 : List UInt8 := dkwX6_init_1 ++ []
def dkwX6_init_0 : List UInt8 := [42, 43, 181, 0, 3, 42, 183, 0, 9, 42, 28, 181, 0, 15, 42, 29, 181, 0, 19, 42, 21, 4]
abbrev dktX6_init_0 : List UInt8 := dkwX6_init_0 ++ dktX6_init_1
theorem dksX6_init_0 : cX6_init.data.toList.drop 0 = dktX6_init_0 := by decide +kernel
theorem dksX6_init_1 : cX6_init.data.toList.drop 22 = dktX6_init_1 := dk_seg dksX6_init_0 22 rfl rfl
theorem dX6_init_0 : decode cX6_init 0 = .ok (.aload_n 0, 1) := dk_42 (dk_at dksX6_init_0 0 rfl rfl)
theorem dX6_init_1 : decode cX6_init 1 = .ok (.aload_n 1, 1) := dk_43 (dk_at dksX6_init_0 1 rfl rfl)
theorem dX6_init_2 : decode cX6_init 2 = .ok (.putfield 3, 3) := dk_181 0 3 (dk_at dksX6_init_0 2 rfl rfl)
theorem dX6_init_5 : decode cX6_init 5 = .ok (.aload_n 0, 1) := dk_42 (dk_at dksX6_init_0 5 rfl rfl)
theorem dX6_init_6 : decode cX6_init 6 = .ok (.invokespecial 9, 3) := dk_183 0 9 (dk_at dksX6_init_0 6 rfl rfl)
theorem dX6_init_9 : decode cX6_init 9 = .ok (.aload_n 0, 1) := dk_42 (dk_at dksX6_init_0 9 rfl rfl)
theorem dX6_init_10 : decode cX6_init 10 = .ok (.iload_n 2, 1) := dk_28 (dk_at dksX6_init_0 10 rfl rfl)
theorem dX6_init_11 : decode cX6_init 11 = .ok (.putfield 15, 3) := dk_181 0 15 (dk_at dksX6_init_0 11 rfl rfl)
theorem dX6_init_14 : decode cX6_init 14 = .ok (.aload_n 0, 1) := dk_42 (dk_at dksX6_init_0 14 rfl rfl)
theorem dX6_init_15 : decode cX6_init 15 = .ok (.iload_n 3, 1) := dk_29 (dk_at dksX6_init_0 15 rfl rfl)
theorem dX6_init_16 : decode cX6_init 16 = .ok (.putfield 19, 3) := dk_181 0 19 (dk_at dksX6_init_0 16 rfl rfl)
theorem dX6_init_19 : decode cX6_init 19 = .ok (.aload_n 0, 1) := dk_42 (dk_at dksX6_init_0 19 rfl rfl)
theorem dX6_init_20 : decode cX6_init 20 = .ok (.iload 4, 2) := dk_21 4 (dk_at dksX6_init_0 20 rfl rfl)
theorem dX6_init_22 : decode cX6_init 22 = .ok (.putfield 22, 3) := dk_181 0 22 (dk_at dksX6_init_1 0 rfl rfl)
theorem dX6_init_25 : decode cX6_init 25 = .ok (.aload_n 0, 1) := dk_42 (dk_at dksX6_init_1 3 rfl rfl)
theorem dX6_init_26 : decode cX6_init 26 = .ok (.iload 5, 2) := dk_21 5 (dk_at dksX6_init_1 4 rfl rfl)
theorem dX6_init_28 : decode cX6_init 28 = .ok (.putfield 25, 3) := dk_181 0 25 (dk_at dksX6_init_1 6 rfl rfl)
theorem dX6_init_31 : decode cX6_init 31 = .ok (.aload_n 0, 1) := dk_42 (dk_at dksX6_init_1 9 rfl rfl)
theorem dX6_init_32 : decode cX6_init 32 = .ok (.iload 6, 2) := dk_21 6 (dk_at dksX6_init_1 10 rfl rfl)
theorem dX6_init_34 : decode cX6_init 34 = .ok (.putfield 28, 3) := dk_181 0 28 (dk_at dksX6_init_1 12 rfl rfl)
theorem dX6_init_37 : decode cX6_init 37 = .ok (.return_, 1) := dk_177 (dk_at dksX6_init_1 15 rfl rfl)
abbrev cX6_asked : ByteArray := prog_12_method_8_code
def yX6_asked : MethodName := ⟨RX6, "asked", "(I)I"⟩
def dkwX6_asked_3 : List UInt8 := [172, 42, 180, 0, 35, 172, 16, 254, 172]
abbrev dktX6_asked_3 : List UInt8 := dkwX6_asked_3 ++ []
def dkwX6_asked_2 : List UInt8 := [42, 182, 0, 31, 172, 42, 180, 0, 19, 172, 42, 180, 0, 22, 172, 42, 180, 0, 25, 172, 42, 180, 0, 28]
abbrev dktX6_asked_2 : List UInt8 := dkwX6_asked_2 ++ dktX6_asked_3
def dkwX6_asked_1 : List UInt8 := [170, 0, 0, 0, 0, 0, 69, 0, 0, 0, 0, 0, 0, 0, 5, 0, 0, 0, 39, 0, 0, 0, 44, 0, 0, 0, 49, 0, 0, 0, 54, 0, 0, 0, 59, 0, 0, 0, 64]
abbrev dktX6_asked_1 : List UInt8 := dkwX6_asked_1 ++ dktX6_asked_2
def dkwX6_asked_0 : List UInt8 := [27]
abbrev dktX6_asked_0 : List UInt8 := dkwX6_asked_0 ++ dktX6_asked_1
theorem dksX6_asked_0 : cX6_asked.data.toList.drop 0 = dktX6_asked_0 := by decide +kernel
theorem dksX6_asked_1 : cX6_asked.data.toList.drop 1 = dktX6_asked_1 := dk_seg dksX6_asked_0 1 rfl rfl
theorem dksX6_asked_2 : cX6_asked.data.toList.drop 40 = dktX6_asked_2 := dk_seg dksX6_asked_1 39 rfl rfl
theorem dksX6_asked_3 : cX6_asked.data.toList.drop 64 = dktX6_asked_3 := dk_seg dksX6_asked_2 24 rfl rfl
theorem dX6_asked_0 : decode cX6_asked 0 = .ok (.iload_n 1, 1) := dk_27 (dk_at dksX6_asked_0 0 rfl rfl)
theorem dX6_asked_1 : decode cX6_asked 1 = .ok (.tableswitch 69 0 5 #[39, 44, 49, 54, 59, 64], 39) := by decide +kernel
theorem dX6_asked_40 : decode cX6_asked 40 = .ok (.aload_n 0, 1) := dk_42 (dk_at dksX6_asked_2 0 rfl rfl)
theorem dX6_asked_41 : decode cX6_asked 41 = .ok (.invokevirtual 31, 3) := dk_182 0 31 (dk_at dksX6_asked_2 1 rfl rfl)
theorem dX6_asked_44 : decode cX6_asked 44 = .ok (.ireturn, 1) := dk_172 (dk_at dksX6_asked_2 4 rfl rfl)
theorem dX6_asked_45 : decode cX6_asked 45 = .ok (.aload_n 0, 1) := dk_42 (dk_at dksX6_asked_2 5 rfl rfl)
theorem dX6_asked_46 : decode cX6_asked 46 = .ok (.getfield 19, 3) := dk_180 0 19 (dk_at dksX6_asked_2 6 rfl rfl)
theorem dX6_asked_49 : decode cX6_asked 49 = .ok (.ireturn, 1) := dk_172 (dk_at dksX6_asked_2 9 rfl rfl)
theorem dX6_asked_50 : decode cX6_asked 50 = .ok (.aload_n 0, 1) := dk_42 (dk_at dksX6_asked_2 10 rfl rfl)
theorem dX6_asked_51 : decode cX6_asked 51 = .ok (.getfield 22, 3) := dk_180 0 22 (dk_at dksX6_asked_2 11 rfl rfl)
theorem dX6_asked_54 : decode cX6_asked 54 = .ok (.ireturn, 1) := dk_172 (dk_at dksX6_asked_2 14 rfl rfl)
theorem dX6_asked_55 : decode cX6_asked 55 = .ok (.aload_n 0, 1) := dk_42 (dk_at dksX6_asked_2 15 rfl rfl)
theorem dX6_asked_56 : decode cX6_asked 56 = .ok (.getfield 25, 3) := dk_180 0 25 (dk_at dksX6_asked_2 16 rfl rfl)
theorem dX6_asked_59 : decode cX6_asked 59 = .ok (.ireturn, 1) := dk_172 (dk_at dksX6_asked_2 19 rfl rfl)
theorem dX6_asked_60 : decode cX6_asked 60 = .ok (.aload_n 0, 1) := dk_42 (dk_at dksX6_asked_2 20 rfl rfl)
theorem dX6_asked_61 : decode cX6_asked 61 = .ok (.getfield 28, 3) := dk_180 0 28 (dk_at dksX6_asked_2 21 rfl rfl)
theorem dX6_asked_64 : decode cX6_asked 64 = .ok (.ireturn, 1) := dk_172 (dk_at dksX6_asked_3 0 rfl rfl)
theorem dX6_asked_65 : decode cX6_asked 65 = .ok (.aload_n 0, 1) := dk_42 (dk_at dksX6_asked_3 1 rfl rfl)
theorem dX6_asked_66 : decode cX6_asked 66 = .ok (.getfield 35, 3) := dk_180 0 35 (dk_at dksX6_asked_3 2 rfl rfl)
theorem dX6_asked_69 : decode cX6_asked 69 = .ok (.ireturn, 1) := dk_172 (dk_at dksX6_asked_3 5 rfl rfl)
theorem dX6_asked_70 : decode cX6_asked 70 = .ok (.bipush (-2), 2) := dk_16 254 (dk_at dksX6_asked_3 6 rfl rfl)
theorem dX6_asked_72 : decode cX6_asked 72 = .ok (.ireturn, 1) := dk_172 (dk_at dksX6_asked_3 8 rfl rfl)
abbrev cX6_kind : ByteArray := prog_12_method_3_code
def yX6_kind : MethodName := ⟨RX6, "kind", "()I"⟩
theorem dX6_kind_0 : decode cX6_kind 0 = .ok (.iconst 0, 1) := by decide +kernel
theorem dX6_kind_1 : decode cX6_kind 1 = .ok (.ireturn, 1) := by decide +kernel
abbrev cX6_heightIn : ByteArray := prog_12_method_4_code
def yX6_heightIn : MethodName := ⟨RX6, "heightIn", "(I)I"⟩
theorem dX6_heightIn_0 : decode cX6_heightIn 0 = .ok (.aload_n 0, 1) := by decide +kernel
theorem dX6_heightIn_1 : decode cX6_heightIn 1 = .ok (.getfield 25, 3) := by decide +kernel
theorem dX6_heightIn_4 : decode cX6_heightIn 4 = .ok (.ireturn, 1) := by decide +kernel
abbrev cX6_takes : ByteArray := prog_12_method_7_code
def yX6_takes : MethodName := ⟨RX6, "takes", "(Z)I"⟩
def dkwX6_takes_0 : List UInt8 := [27, 153, 0, 12, 5, 42, 180, 0, 28, 104, 167, 0, 7, 42, 180, 0, 28, 172]
abbrev dktX6_takes_0 : List UInt8 := dkwX6_takes_0 ++ []
theorem dksX6_takes_0 : cX6_takes.data.toList.drop 0 = dktX6_takes_0 := by decide +kernel
theorem dX6_takes_0 : decode cX6_takes 0 = .ok (.iload_n 1, 1) := dk_27 (dk_at dksX6_takes_0 0 rfl rfl)
theorem dX6_takes_1 : decode cX6_takes 1 = .ok (.ifCond .eq 12, 3) := dk_153 0 12 (dk_at dksX6_takes_0 1 rfl rfl)
theorem dX6_takes_4 : decode cX6_takes 4 = .ok (.iconst 2, 1) := dk_5 (dk_at dksX6_takes_0 4 rfl rfl)
theorem dX6_takes_5 : decode cX6_takes 5 = .ok (.aload_n 0, 1) := dk_42 (dk_at dksX6_takes_0 5 rfl rfl)
theorem dX6_takes_6 : decode cX6_takes 6 = .ok (.getfield 28, 3) := dk_180 0 28 (dk_at dksX6_takes_0 6 rfl rfl)
theorem dX6_takes_9 : decode cX6_takes 9 = .ok (.imul, 1) := dk_104 (dk_at dksX6_takes_0 9 rfl rfl)
theorem dX6_takes_10 : decode cX6_takes 10 = .ok (.goto 7, 3) := dk_167 0 7 (dk_at dksX6_takes_0 10 rfl rfl)
theorem dX6_takes_13 : decode cX6_takes 13 = .ok (.aload_n 0, 1) := dk_42 (dk_at dksX6_takes_0 13 rfl rfl)
theorem dX6_takes_14 : decode cX6_takes 14 = .ok (.getfield 28, 3) := dk_180 0 28 (dk_at dksX6_takes_0 14 rfl rfl)
theorem dX6_takes_17 : decode cX6_takes 17 = .ok (.ireturn, 1) := dk_172 (dk_at dksX6_takes_0 17 rfl rfl)
abbrev cX6_joins : ByteArray := prog_12_method_5_code
def yX6_joins : MethodName := ⟨RX6, "joins", "(I)Z"⟩
def dkwX6_joins_0 : List UInt8 := [42, 180, 0, 19, 27, 159, 0, 11, 42, 180, 0, 22, 27, 160, 0, 7, 4, 167, 0, 4, 3, 172]
abbrev dktX6_joins_0 : List UInt8 := dkwX6_joins_0 ++ []
theorem dksX6_joins_0 : cX6_joins.data.toList.drop 0 = dktX6_joins_0 := by decide +kernel
theorem dX6_joins_0 : decode cX6_joins 0 = .ok (.aload_n 0, 1) := dk_42 (dk_at dksX6_joins_0 0 rfl rfl)
theorem dX6_joins_1 : decode cX6_joins 1 = .ok (.getfield 19, 3) := dk_180 0 19 (dk_at dksX6_joins_0 1 rfl rfl)
theorem dX6_joins_4 : decode cX6_joins 4 = .ok (.iload_n 1, 1) := dk_27 (dk_at dksX6_joins_0 4 rfl rfl)
theorem dX6_joins_5 : decode cX6_joins 5 = .ok (.if_icmp .eq 11, 3) := dk_159 0 11 (dk_at dksX6_joins_0 5 rfl rfl)
theorem dX6_joins_8 : decode cX6_joins 8 = .ok (.aload_n 0, 1) := dk_42 (dk_at dksX6_joins_0 8 rfl rfl)
theorem dX6_joins_9 : decode cX6_joins 9 = .ok (.getfield 22, 3) := dk_180 0 22 (dk_at dksX6_joins_0 9 rfl rfl)
theorem dX6_joins_12 : decode cX6_joins 12 = .ok (.iload_n 1, 1) := dk_27 (dk_at dksX6_joins_0 12 rfl rfl)
theorem dX6_joins_13 : decode cX6_joins 13 = .ok (.if_icmp .ne 7, 3) := dk_160 0 7 (dk_at dksX6_joins_0 13 rfl rfl)
theorem dX6_joins_16 : decode cX6_joins 16 = .ok (.iconst 1, 1) := dk_4 (dk_at dksX6_joins_0 16 rfl rfl)
theorem dX6_joins_17 : decode cX6_joins 17 = .ok (.goto 4, 3) := dk_167 0 4 (dk_at dksX6_joins_0 17 rfl rfl)
theorem dX6_joins_20 : decode cX6_joins 20 = .ok (.iconst 0, 1) := dk_3 (dk_at dksX6_joins_0 20 rfl rfl)
theorem dX6_joins_21 : decode cX6_joins 21 = .ok (.ireturn, 1) := dk_172 (dk_at dksX6_joins_0 21 rfl rfl)
abbrev cX6_other : ByteArray := prog_12_method_6_code
def yX6_other : MethodName := ⟨RX6, "other", "(I)I"⟩
def dkwX6_other_0 : List UInt8 := [42, 180, 0, 19, 27, 160, 0, 10, 42, 180, 0, 22, 167, 0, 7, 42, 180, 0, 19, 172]
abbrev dktX6_other_0 : List UInt8 := dkwX6_other_0 ++ []
theorem dksX6_other_0 : cX6_other.data.toList.drop 0 = dktX6_other_0 := by decide +kernel
theorem dX6_other_0 : decode cX6_other 0 = .ok (.aload_n 0, 1) := dk_42 (dk_at dksX6_other_0 0 rfl rfl)
theorem dX6_other_1 : decode cX6_other 1 = .ok (.getfield 19, 3) := dk_180 0 19 (dk_at dksX6_other_0 1 rfl rfl)
theorem dX6_other_4 : decode cX6_other 4 = .ok (.iload_n 1, 1) := dk_27 (dk_at dksX6_other_0 4 rfl rfl)
theorem dX6_other_5 : decode cX6_other 5 = .ok (.if_icmp .ne 10, 3) := dk_160 0 10 (dk_at dksX6_other_0 5 rfl rfl)
theorem dX6_other_8 : decode cX6_other 8 = .ok (.aload_n 0, 1) := dk_42 (dk_at dksX6_other_0 8 rfl rfl)
theorem dX6_other_9 : decode cX6_other 9 = .ok (.getfield 22, 3) := dk_180 0 22 (dk_at dksX6_other_0 9 rfl rfl)
theorem dX6_other_12 : decode cX6_other 12 = .ok (.goto 7, 3) := dk_167 0 7 (dk_at dksX6_other_0 12 rfl rfl)
theorem dX6_other_15 : decode cX6_other 15 = .ok (.aload_n 0, 1) := dk_42 (dk_at dksX6_other_0 15 rfl rfl)
theorem dX6_other_16 : decode cX6_other 16 = .ok (.getfield 19, 3) := dk_180 0 19 (dk_at dksX6_other_0 16 rfl rfl)
theorem dX6_other_19 : decode cX6_other 19 = .ok (.ireturn, 1) := dk_172 (dk_at dksX6_other_0 19 rfl rfl)
abbrev cX6_tracedBy : ByteArray := prog_12_method_9_code
def yX6_tracedBy : MethodName := ⟨RX6, "tracedBy", "(I)I"⟩
def dkwX6_tracedBy_0 : List UInt8 := [42, 180, 0, 3, 16, 31, 42, 180, 0, 3, 180, 0, 38, 104, 27, 96, 181, 0, 38, 3, 172]
abbrev dktX6_tracedBy_0 : List UInt8 := dkwX6_tracedBy_0 ++ []
theorem dksX6_tracedBy_0 : cX6_tracedBy.data.toList.drop 0 = dktX6_tracedBy_0 := by decide +kernel
theorem dX6_tracedBy_0 : decode cX6_tracedBy 0 = .ok (.aload_n 0, 1) := dk_42 (dk_at dksX6_tracedBy_0 0 rfl rfl)
theorem dX6_tracedBy_1 : decode cX6_tracedBy 1 = .ok (.getfield 3, 3) := dk_180 0 3 (dk_at dksX6_tracedBy_0 1 rfl rfl)
theorem dX6_tracedBy_4 : decode cX6_tracedBy 4 = .ok (.bipush 31, 2) := dk_16 31 (dk_at dksX6_tracedBy_0 4 rfl rfl)
theorem dX6_tracedBy_6 : decode cX6_tracedBy 6 = .ok (.aload_n 0, 1) := dk_42 (dk_at dksX6_tracedBy_0 6 rfl rfl)
theorem dX6_tracedBy_7 : decode cX6_tracedBy 7 = .ok (.getfield 3, 3) := dk_180 0 3 (dk_at dksX6_tracedBy_0 7 rfl rfl)
theorem dX6_tracedBy_10 : decode cX6_tracedBy 10 = .ok (.getfield 38, 3) := dk_180 0 38 (dk_at dksX6_tracedBy_0 10 rfl rfl)
theorem dX6_tracedBy_13 : decode cX6_tracedBy 13 = .ok (.imul, 1) := dk_104 (dk_at dksX6_tracedBy_0 13 rfl rfl)
theorem dX6_tracedBy_14 : decode cX6_tracedBy 14 = .ok (.iload_n 1, 1) := dk_27 (dk_at dksX6_tracedBy_0 14 rfl rfl)
theorem dX6_tracedBy_15 : decode cX6_tracedBy 15 = .ok (.iadd, 1) := dk_96 (dk_at dksX6_tracedBy_0 15 rfl rfl)
theorem dX6_tracedBy_16 : decode cX6_tracedBy 16 = .ok (.putfield 38, 3) := dk_181 0 38 (dk_at dksX6_tracedBy_0 16 rfl rfl)
theorem dX6_tracedBy_19 : decode cX6_tracedBy 19 = .ok (.iconst 0, 1) := dk_3 (dk_at dksX6_tracedBy_0 19 rfl rfl)
theorem dX6_tracedBy_20 : decode cX6_tracedBy 20 = .ok (.ireturn, 1) := dk_172 (dk_at dksX6_tracedBy_0 20 rfl rfl)
abbrev cX6_said : ByteArray := prog_12_method_10_code
def yX6_said : MethodName := ⟨RX6, "said", "()I"⟩
def dkwX6_said_0 : List UInt8 := [42, 4, 182, 0, 41, 42, 180, 0, 28, 96, 172]
abbrev dktX6_said_0 : List UInt8 := dkwX6_said_0 ++ []
theorem dksX6_said_0 : cX6_said.data.toList.drop 0 = dktX6_said_0 := by decide +kernel
theorem dX6_said_0 : decode cX6_said 0 = .ok (.aload_n 0, 1) := dk_42 (dk_at dksX6_said_0 0 rfl rfl)
theorem dX6_said_1 : decode cX6_said 1 = .ok (.iconst 1, 1) := dk_4 (dk_at dksX6_said_0 1 rfl rfl)
theorem dX6_said_2 : decode cX6_said 2 = .ok (.invokevirtual 41, 3) := dk_182 0 41 (dk_at dksX6_said_0 2 rfl rfl)
theorem dX6_said_5 : decode cX6_said 5 = .ok (.aload_n 0, 1) := dk_42 (dk_at dksX6_said_0 5 rfl rfl)
theorem dX6_said_6 : decode cX6_said 6 = .ok (.getfield 28, 3) := dk_180 0 28 (dk_at dksX6_said_0 6 rfl rfl)
theorem dX6_said_9 : decode cX6_said 9 = .ok (.iadd, 1) := dk_96 (dk_at dksX6_said_0 9 rfl rfl)
theorem dX6_said_10 : decode cX6_said 10 = .ok (.ireturn, 1) := dk_172 (dk_at dksX6_said_0 10 rfl rfl)
abbrev cX6_number : ByteArray := prog_12_method_2_code
def yX6_number : MethodName := ⟨RX6, "number", "()I"⟩
theorem dX6_number_0 : decode cX6_number 0 = .ok (.aload_n 0, 1) := by decide +kernel
theorem dX6_number_1 : decode cX6_number 1 = .ok (.getfield 15, 3) := by decide +kernel
theorem dX6_number_4 : decode cX6_number 4 = .ok (.ireturn, 1) := by decide +kernel
theorem q75 : (Jvm.Cond.initialized "ThirdEbb$Soft") ∈ lw_all := lw_g (lw_at lw_m1 26 rfl) rfl
theorem q123 : (Jvm.Cond.fieldLinkNest "ThirdEbb$Soft" (38 : Nat) "ThirdEbb" "trace" "I" "ThirdEbb") ∈ lw_tbl := lw_at lw_m1 74 rfl
theorem q259 : (Jvm.Cond.instantiable "ThirdEbb$Soft" (7 : Nat)) ∈ lw_all := lw_g (lw_at lw_m1 210 rfl) rfl
theorem q261 : (Jvm.Cond.instanceMethod ({ cls := "ThirdEbb$Soft", name := "<init>", desc := "(LThirdEbb;IIIII)V" } : Jvm.MethodName)) ∈ lw_all := lw_g (lw_at lw_m1 212 rfl) rfl
theorem q262 : (Jvm.Cond.code ({ cls := "ThirdEbb$Soft", name := "<init>", desc := "(LThirdEbb;IIIII)V" } : Jvm.MethodName) prog_12_method_1_code (7 : Nat) (Option.none : Option Jvm.ClassFile.FieldType)) ∈ lw_all := lw_g (lw_at lw_m1 213 rfl) rfl
theorem q263 : (Jvm.Cond.methodLink "ThirdEbb$Soft" (9 : Nat) ({ cls := "java/lang/Object", name := "<init>", desc := "()V" } : Jvm.MethodName)) ∈ lw_all := lw_g (lw_at lw_m1 214 rfl) rfl
theorem q264 : (Jvm.Cond.fieldLink "ThirdEbb$Soft" (15 : Nat) "ThirdEbb$Soft" "number" "I") ∈ lw_all := lw_g (lw_at lw_m1 215 rfl) rfl
theorem q271 : (Jvm.Cond.fieldLink "ThirdEbb$Soft" (19 : Nat) "ThirdEbb$Soft" "a" "I") ∈ lw_all := lw_g (lw_at lw_m1 222 rfl) rfl
theorem q272 : (Jvm.Cond.fieldLink "ThirdEbb$Soft" (22 : Nat) "ThirdEbb$Soft" "b" "I") ∈ lw_all := lw_g (lw_at lw_m1 223 rfl) rfl
theorem q273 : (Jvm.Cond.fieldLink "ThirdEbb$Soft" (25 : Nat) "ThirdEbb$Soft" "bed" "I") ∈ lw_all := lw_g (lw_at lw_m1 224 rfl) rfl
theorem q274 : (Jvm.Cond.fieldLink "ThirdEbb$Soft" (28 : Nat) "ThirdEbb$Soft" "length" "I") ∈ lw_all := lw_g (lw_at lw_m1 225 rfl) rfl
theorem q277 : (Jvm.Cond.fieldLink "ThirdEbb$Soft" (35 : Nat) "ThirdEbb$Soft" "mended" "I") ∈ lw_all := lw_g (lw_at lw_m1 228 rfl) rfl
theorem q279 : (Jvm.Cond.fieldLink "ThirdEbb$Soft" (3 : Nat) "ThirdEbb$Soft" "this$0" "LThirdEbb;") ∈ lw_all := lw_g (lw_at lw_m1 230 rfl) rfl
theorem q280 : (Jvm.Cond.laysFinal "ThirdEbb$Soft" "ThirdEbb$Soft" "number" "I") ∈ lw_all := lw_g (lw_at lw_m1 231 rfl) rfl
theorem q281 : (Jvm.Cond.soleField "ThirdEbb$Soft" "number") ∈ lw_all := lw_g (lw_at lw_m1 232 rfl) rfl
theorem q282 : (Jvm.Cond.laysFinal "ThirdEbb$Soft" "ThirdEbb$Soft" "a" "I") ∈ lw_all := lw_g (lw_at lw_m1 233 rfl) rfl
theorem q283 : (Jvm.Cond.soleField "ThirdEbb$Soft" "a") ∈ lw_all := lw_g (lw_at lw_m1 234 rfl) rfl
theorem q284 : (Jvm.Cond.laysFinal "ThirdEbb$Soft" "ThirdEbb$Soft" "b" "I") ∈ lw_all := lw_g (lw_at lw_m1 235 rfl) rfl
theorem q285 : (Jvm.Cond.soleField "ThirdEbb$Soft" "b") ∈ lw_all := lw_g (lw_at lw_m1 236 rfl) rfl
theorem q286 : (Jvm.Cond.laysFinal "ThirdEbb$Soft" "ThirdEbb$Soft" "bed" "I") ∈ lw_all := lw_g (lw_at lw_m1 237 rfl) rfl
theorem q287 : (Jvm.Cond.soleField "ThirdEbb$Soft" "bed") ∈ lw_all := lw_g (lw_at lw_m1 238 rfl) rfl
theorem q288 : (Jvm.Cond.laysFinal "ThirdEbb$Soft" "ThirdEbb$Soft" "length" "I") ∈ lw_all := lw_g (lw_at lw_m1 239 rfl) rfl
theorem q289 : (Jvm.Cond.soleField "ThirdEbb$Soft" "length") ∈ lw_all := lw_g (lw_at lw_m2 0 rfl) rfl
theorem q290 : (Jvm.Cond.lays "ThirdEbb$Soft" "ThirdEbb$Soft" "mended" "I") ∈ lw_all := lw_g (lw_at lw_m2 1 rfl) rfl
theorem q291 : (Jvm.Cond.soleField "ThirdEbb$Soft" "mended") ∈ lw_all := lw_g (lw_at lw_m2 2 rfl) rfl
theorem q292 : (Jvm.Cond.laysFinal "ThirdEbb$Soft" "ThirdEbb$Soft" "this$0" "LThirdEbb;") ∈ lw_all := lw_g (lw_at lw_m2 3 rfl) rfl
theorem q293 : (Jvm.Cond.soleField "ThirdEbb$Soft" "this$0") ∈ lw_all := lw_g (lw_at lw_m2 4 rfl) rfl
theorem q294 : (Jvm.Cond.superclass "ThirdEbb$Soft" "java/lang/Object") ∈ lw_all := lw_g (lw_at lw_m2 5 rfl) rfl
theorem q376 : (Jvm.Cond.selects "ThirdEbb$Soft" ({ cls := "java/lang/Object", name := "getClass", desc := "()Ljava/lang/Class;" } : Jvm.MethodName) ({ cls := "java/lang/Object", name := "getClass", desc := "()Ljava/lang/Class;" } : Jvm.MethodName)) ∈ lw_all := lw_g (lw_at lw_m2 87 rfl) rfl
theorem q408 : (Jvm.Cond.instanceMethod ({ cls := "ThirdEbb$Soft", name := "asked", desc := "(I)I" } : Jvm.MethodName)) ∈ lw_all := lw_g (lw_at lw_m2 119 rfl) rfl
theorem q409 : (Jvm.Cond.selects "ThirdEbb$Soft" ({ cls := "ThirdEbb$Soft", name := "asked", desc := "(I)I" } : Jvm.MethodName) ({ cls := "ThirdEbb$Soft", name := "asked", desc := "(I)I" } : Jvm.MethodName)) ∈ lw_all := lw_g (lw_at lw_m2 120 rfl) rfl
theorem q410 : (Jvm.Cond.sameMethod "ThirdEbb$Soft" "ThirdEbb$Soft" "asked" "(I)I") ∈ lw_all := lw_g (lw_at lw_m2 121 rfl) rfl
theorem q413 : (Jvm.Cond.code ({ cls := "ThirdEbb$Soft", name := "asked", desc := "(I)I" } : Jvm.MethodName) prog_12_method_8_code (2 : Nat) (Option.some Jvm.ClassFile.FieldType.int)) ∈ lw_all := lw_g (lw_at lw_m2 124 rfl) rfl
theorem q414 : (Jvm.Cond.methodLink "ThirdEbb$Soft" (31 : Nat) ({ cls := "ThirdEbb$Soft", name := "kind", desc := "()I" } : Jvm.MethodName)) ∈ lw_all := lw_g (lw_at lw_m2 125 rfl) rfl
theorem q415 : (Jvm.Cond.instanceMethod ({ cls := "ThirdEbb$Soft", name := "kind", desc := "()I" } : Jvm.MethodName)) ∈ lw_all := lw_g (lw_at lw_m2 126 rfl) rfl
theorem q416 : (Jvm.Cond.selects "ThirdEbb$Soft" ({ cls := "ThirdEbb$Soft", name := "kind", desc := "()I" } : Jvm.MethodName) ({ cls := "ThirdEbb$Soft", name := "kind", desc := "()I" } : Jvm.MethodName)) ∈ lw_all := lw_g (lw_at lw_m2 127 rfl) rfl
theorem q417 : (Jvm.Cond.sameMethod "ThirdEbb$Soft" "ThirdEbb$Soft" "kind" "()I") ∈ lw_all := lw_g (lw_at lw_m2 128 rfl) rfl
theorem q424 : (Jvm.Cond.code ({ cls := "ThirdEbb$Soft", name := "kind", desc := "()I" } : Jvm.MethodName) prog_12_method_3_code (1 : Nat) (Option.some Jvm.ClassFile.FieldType.int)) ∈ lw_all := lw_g (lw_at lw_m2 135 rfl) rfl
theorem q435 : (Jvm.Cond.instanceMethod ({ cls := "ThirdEbb$Soft", name := "heightIn", desc := "(I)I" } : Jvm.MethodName)) ∈ lw_all := lw_g (lw_at lw_m2 146 rfl) rfl
theorem q436 : (Jvm.Cond.selects "ThirdEbb$Soft" ({ cls := "ThirdEbb$Soft", name := "heightIn", desc := "(I)I" } : Jvm.MethodName) ({ cls := "ThirdEbb$Soft", name := "heightIn", desc := "(I)I" } : Jvm.MethodName)) ∈ lw_all := lw_g (lw_at lw_m2 147 rfl) rfl
theorem q437 : (Jvm.Cond.sameMethod "ThirdEbb$Soft" "ThirdEbb$Soft" "heightIn" "(I)I") ∈ lw_all := lw_g (lw_at lw_m2 148 rfl) rfl
theorem q447 : (Jvm.Cond.code ({ cls := "ThirdEbb$Soft", name := "heightIn", desc := "(I)I" } : Jvm.MethodName) prog_12_method_4_code (2 : Nat) (Option.some Jvm.ClassFile.FieldType.int)) ∈ lw_all := lw_g (lw_at lw_m2 158 rfl) rfl
theorem q475 : (Jvm.Cond.instanceMethod ({ cls := "ThirdEbb$Soft", name := "takes", desc := "(Z)I" } : Jvm.MethodName)) ∈ lw_all := lw_g (lw_at lw_m2 186 rfl) rfl
theorem q476 : (Jvm.Cond.selects "ThirdEbb$Soft" ({ cls := "ThirdEbb$Soft", name := "takes", desc := "(Z)I" } : Jvm.MethodName) ({ cls := "ThirdEbb$Soft", name := "takes", desc := "(Z)I" } : Jvm.MethodName)) ∈ lw_all := lw_g (lw_at lw_m2 187 rfl) rfl
theorem q477 : (Jvm.Cond.sameMethod "ThirdEbb$Soft" "ThirdEbb$Soft" "takes" "(Z)I") ∈ lw_all := lw_g (lw_at lw_m2 188 rfl) rfl
theorem q480 : (Jvm.Cond.code ({ cls := "ThirdEbb$Soft", name := "takes", desc := "(Z)I" } : Jvm.MethodName) prog_12_method_7_code (2 : Nat) (Option.some Jvm.ClassFile.FieldType.int)) ∈ lw_all := lw_g (lw_at lw_m2 191 rfl) rfl
theorem q497 : (Jvm.Cond.instanceMethod ({ cls := "ThirdEbb$Soft", name := "joins", desc := "(I)Z" } : Jvm.MethodName)) ∈ lw_all := lw_g (lw_at lw_m2 208 rfl) rfl
theorem q498 : (Jvm.Cond.selects "ThirdEbb$Soft" ({ cls := "ThirdEbb$Soft", name := "joins", desc := "(I)Z" } : Jvm.MethodName) ({ cls := "ThirdEbb$Soft", name := "joins", desc := "(I)Z" } : Jvm.MethodName)) ∈ lw_all := lw_g (lw_at lw_m2 209 rfl) rfl
theorem q499 : (Jvm.Cond.sameMethod "ThirdEbb$Soft" "ThirdEbb$Soft" "joins" "(I)Z") ∈ lw_all := lw_g (lw_at lw_m2 210 rfl) rfl
theorem q502 : (Jvm.Cond.code ({ cls := "ThirdEbb$Soft", name := "joins", desc := "(I)Z" } : Jvm.MethodName) prog_12_method_5_code (2 : Nat) (Option.some Jvm.ClassFile.FieldType.boolean)) ∈ lw_all := lw_g (lw_at lw_m2 213 rfl) rfl
theorem q504 : (Jvm.Cond.instanceMethod ({ cls := "ThirdEbb$Soft", name := "other", desc := "(I)I" } : Jvm.MethodName)) ∈ lw_all := lw_g (lw_at lw_m2 215 rfl) rfl
theorem q505 : (Jvm.Cond.selects "ThirdEbb$Soft" ({ cls := "ThirdEbb$Soft", name := "other", desc := "(I)I" } : Jvm.MethodName) ({ cls := "ThirdEbb$Soft", name := "other", desc := "(I)I" } : Jvm.MethodName)) ∈ lw_all := lw_g (lw_at lw_m2 216 rfl) rfl
theorem q506 : (Jvm.Cond.sameMethod "ThirdEbb$Soft" "ThirdEbb$Soft" "other" "(I)I") ∈ lw_all := lw_g (lw_at lw_m2 217 rfl) rfl
theorem q509 : (Jvm.Cond.code ({ cls := "ThirdEbb$Soft", name := "other", desc := "(I)I" } : Jvm.MethodName) prog_12_method_6_code (2 : Nat) (Option.some Jvm.ClassFile.FieldType.int)) ∈ lw_all := lw_g (lw_at lw_m2 220 rfl) rfl
theorem q1032 : (Jvm.Cond.instanceMethod ({ cls := "ThirdEbb$Soft", name := "said", desc := "()I" } : Jvm.MethodName)) ∈ lw_all := lw_g (lw_at lw_m5 23 rfl) rfl
theorem q1033 : (Jvm.Cond.selects "ThirdEbb$Soft" ({ cls := "ThirdEbb$Soft", name := "said", desc := "()I" } : Jvm.MethodName) ({ cls := "ThirdEbb$Soft", name := "said", desc := "()I" } : Jvm.MethodName)) ∈ lw_all := lw_g (lw_at lw_m5 24 rfl) rfl
theorem q1034 : (Jvm.Cond.sameMethod "ThirdEbb$Soft" "ThirdEbb$Soft" "said" "()I") ∈ lw_all := lw_g (lw_at lw_m5 25 rfl) rfl
theorem q1040 : (Jvm.Cond.declares ({ cls := "ThirdEbb$Soft", name := "tracedBy", desc := "(I)I" } : Jvm.MethodName)) ∈ lw_tbl := lw_at lw_m5 31 rfl
theorem q1043 : (Jvm.Cond.instanceMethod ({ cls := "ThirdEbb$Soft", name := "tracedBy", desc := "(I)I" } : Jvm.MethodName)) ∈ lw_all := lw_g (lw_at lw_m5 34 rfl) rfl
theorem q1044 : (Jvm.Cond.code ({ cls := "ThirdEbb$Soft", name := "tracedBy", desc := "(I)I" } : Jvm.MethodName) prog_12_method_9_code (2 : Nat) (Option.some Jvm.ClassFile.FieldType.int)) ∈ lw_all := lw_g (lw_at lw_m5 35 rfl) rfl
theorem q1059 : (Jvm.Cond.code ({ cls := "ThirdEbb$Soft", name := "said", desc := "()I" } : Jvm.MethodName) prog_12_method_10_code (1 : Nat) (Option.some Jvm.ClassFile.FieldType.int)) ∈ lw_all := lw_g (lw_at lw_m5 50 rfl) rfl
theorem q1060 : (Jvm.Cond.methodLink "ThirdEbb$Soft" (41 : Nat) ({ cls := "ThirdEbb$Soft", name := "tracedBy", desc := "(I)I" } : Jvm.MethodName)) ∈ lw_all := lw_g (lw_at lw_m5 51 rfl) rfl
theorem q1081 : (Jvm.Cond.publicMethod ({ cls := "ThirdEbb$Soft", name := "tracedBy", desc := "(I)I" } : Jvm.MethodName)) ∈ lw_tbl := lw_at lw_m5 72 rfl
theorem q1085 : (Jvm.Cond.castable "ThirdEbb$Soft" "ThirdEbb$Staked") ∈ lw_tbl := lw_at lw_m5 76 rfl
theorem q1086 : (Jvm.Cond.selects "ThirdEbb$Soft" ({ cls := "ThirdEbb$Staked", name := "tracedBy", desc := "(I)I" } : Jvm.MethodName) ({ cls := "ThirdEbb$Soft", name := "tracedBy", desc := "(I)I" } : Jvm.MethodName)) ∈ lw_all := lw_g (lw_at lw_m5 77 rfl) rfl
theorem q1087 : (Jvm.Cond.unhidden "ThirdEbb$Soft" "tracedBy" "(I)I") ∈ lw_tbl := lw_at lw_m5 78 rfl
theorem q1094 : (Jvm.Cond.instanceMethod ({ cls := "ThirdEbb$Soft", name := "number", desc := "()I" } : Jvm.MethodName)) ∈ lw_all := lw_g (lw_at lw_m5 85 rfl) rfl
theorem q1095 : (Jvm.Cond.publicMethod ({ cls := "ThirdEbb$Soft", name := "number", desc := "()I" } : Jvm.MethodName)) ∈ lw_tbl := lw_at lw_m5 86 rfl
theorem q1096 : (Jvm.Cond.code ({ cls := "ThirdEbb$Soft", name := "number", desc := "()I" } : Jvm.MethodName) prog_12_method_2_code (1 : Nat) (Option.some Jvm.ClassFile.FieldType.int)) ∈ lw_all := lw_g (lw_at lw_m5 87 rfl) rfl
theorem q1099 : (Jvm.Cond.selects "ThirdEbb$Soft" ({ cls := "ThirdEbb$Staked", name := "number", desc := "()I" } : Jvm.MethodName) ({ cls := "ThirdEbb$Soft", name := "number", desc := "()I" } : Jvm.MethodName)) ∈ lw_all := lw_g (lw_at lw_m5 90 rfl) rfl
theorem q1100 : (Jvm.Cond.unhidden "ThirdEbb$Soft" "number" "()I") ∈ lw_tbl := lw_at lw_m5 91 rfl
theorem q1106 : (Jvm.Cond.unhidden "ThirdEbb$Soft" "staked" "()I") ∈ lw_tbl := lw_at lw_m5 97 rfl
theorem q1492 : (Jvm.Cond.sameMethod "ThirdEbb$Soft" "ThirdEbb$Soft" "tracedBy" "(I)I") ∈ lw_all := lw_g (lw_at lw_m7 3 rfl) rfl
theorem q1495 : (Jvm.Cond.selects "ThirdEbb$Soft" ({ cls := "ThirdEbb$Soft", name := "tracedBy", desc := "(I)I" } : Jvm.MethodName) ({ cls := "ThirdEbb$Soft", name := "tracedBy", desc := "(I)I" } : Jvm.MethodName)) ∈ lw_all := lw_g (lw_at lw_m7 6 rfl) rfl
theorem q1512 : (Jvm.Cond.castable "ThirdEbb$Soft" "java/lang/Object") ∈ lw_tbl := lw_at lw_m7 23 rfl
theorem in_X6 : ∀ w ∈ wsX60, w ∈ lw_all := lw_in wsX60 [280, 282, 284, 286, 288, 290, 292] (by decide +kernel) (by decide +kernel)

/-! ThirdEbb$Bridged -/
set_option maxRecDepth 100000
def RX7 : String := "ThirdEbb$Bridged"
def TX7 : u_T := fun k => match k with
  | 0 => ("ThirdEbb$Soft", "number", "I", true)
  | 1 => ("ThirdEbb$Soft", "a", "I", true)
  | 2 => ("ThirdEbb$Soft", "b", "I", true)
  | 3 => ("ThirdEbb$Soft", "bed", "I", true)
  | 4 => ("ThirdEbb$Soft", "length", "I", true)
  | 5 => ("ThirdEbb$Soft", "mended", "I", false)
  | 6 => ("ThirdEbb$Soft", "this$0", "LThirdEbb;", true)
  | _ => ("ThirdEbb$Bridged", "this$0", "LThirdEbb;", true)
def tyX7 : Nat → FieldType := fun k => match k with
  | 0 => .int
  | 1 => .int
  | 2 => .int
  | 3 => .int
  | 4 => .int
  | 5 => .int
  | 6 => .object "ThirdEbb"
  | _ => .object "ThirdEbb"
abbrev wsX70 : List Cond := u_ws RX7 TX7 8
-- two fields of one name: no nmX7
theorem tyX7_ok : ∀ k, k < 8 → parseFieldDescriptor (TX7 k).2.2.1 = some (tyX7 k) := by decide +kernel
abbrev cX7_init : ByteArray := prog_4_method_1_code
def yX7_init : MethodName := ⟨RX7, "<init>", "(LThirdEbb;IIIII)V"⟩
def dkwX7_init_0 : List UInt8 := [42, 43, 181, 0, 1, 42, 43, 28, 29, 21, 4, 21, 5, 21, 6, 183, 0, 7, 177]
abbrev dktX7_init_0 : List UInt8 := dkwX7_init_0 ++ []
theorem dksX7_init_0 : cX7_init.data.toList.drop 0 = dktX7_init_0 := by decide +kernel
theorem dX7_init_0 : decode cX7_init 0 = .ok (.aload_n 0, 1) := dk_42 (dk_at dksX7_init_0 0 rfl rfl)
theorem dX7_init_1 : decode cX7_init 1 = .ok (.aload_n 1, 1) := dk_43 (dk_at dksX7_init_0 1 rfl rfl)
theorem dX7_init_2 : decode cX7_init 2 = .ok (.putfield 1, 3) := dk_181 0 1 (dk_at dksX7_init_0 2 rfl rfl)
theorem dX7_init_5 : decode cX7_init 5 = .ok (.aload_n 0, 1) := dk_42 (dk_at dksX7_init_0 5 rfl rfl)
theorem dX7_init_6 : decode cX7_init 6 = .ok (.aload_n 1, 1) := dk_43 (dk_at dksX7_init_0 6 rfl rfl)
theorem dX7_init_7 : decode cX7_init 7 = .ok (.iload_n 2, 1) := dk_28 (dk_at dksX7_init_0 7 rfl rfl)
theorem dX7_init_8 : decode cX7_init 8 = .ok (.iload_n 3, 1) := dk_29 (dk_at dksX7_init_0 8 rfl rfl)
theorem dX7_init_9 : decode cX7_init 9 = .ok (.iload 4, 2) := dk_21 4 (dk_at dksX7_init_0 9 rfl rfl)
theorem dX7_init_11 : decode cX7_init 11 = .ok (.iload 5, 2) := dk_21 5 (dk_at dksX7_init_0 11 rfl rfl)
theorem dX7_init_13 : decode cX7_init 13 = .ok (.iload 6, 2) := dk_21 6 (dk_at dksX7_init_0 13 rfl rfl)
theorem dX7_init_15 : decode cX7_init 15 = .ok (.invokespecial 7, 3) := dk_183 0 7 (dk_at dksX7_init_0 15 rfl rfl)
theorem dX7_init_18 : decode cX7_init 18 = .ok (.return_, 1) := dk_177 (dk_at dksX7_init_0 18 rfl rfl)
abbrev cX7_kind : ByteArray := prog_4_method_2_code
def yX7_kind : MethodName := ⟨RX7, "kind", "()I"⟩
theorem dX7_kind_0 : decode cX7_kind 0 = .ok (.iconst 1, 1) := by decide +kernel
theorem dX7_kind_1 : decode cX7_kind 1 = .ok (.ireturn, 1) := by decide +kernel
abbrev cX7_heightIn : ByteArray := prog_4_method_3_code
def yX7_heightIn : MethodName := ⟨RX7, "heightIn", "(I)I"⟩
def dkwX7_heightIn_0 : List UInt8 := [42, 27, 183, 0, 13, 5, 42, 180, 0, 17, 104, 96, 172]
abbrev dktX7_heightIn_0 : List UInt8 := dkwX7_heightIn_0 ++ []
theorem dksX7_heightIn_0 : cX7_heightIn.data.toList.drop 0 = dktX7_heightIn_0 := by decide +kernel
theorem dX7_heightIn_0 : decode cX7_heightIn 0 = .ok (.aload_n 0, 1) := dk_42 (dk_at dksX7_heightIn_0 0 rfl rfl)
theorem dX7_heightIn_1 : decode cX7_heightIn 1 = .ok (.iload_n 1, 1) := dk_27 (dk_at dksX7_heightIn_0 1 rfl rfl)
theorem dX7_heightIn_2 : decode cX7_heightIn 2 = .ok (.invokespecial 13, 3) := dk_183 0 13 (dk_at dksX7_heightIn_0 2 rfl rfl)
theorem dX7_heightIn_5 : decode cX7_heightIn 5 = .ok (.iconst 2, 1) := dk_5 (dk_at dksX7_heightIn_0 5 rfl rfl)
theorem dX7_heightIn_6 : decode cX7_heightIn 6 = .ok (.aload_n 0, 1) := dk_42 (dk_at dksX7_heightIn_0 6 rfl rfl)
theorem dX7_heightIn_7 : decode cX7_heightIn 7 = .ok (.getfield 17, 3) := dk_180 0 17 (dk_at dksX7_heightIn_0 7 rfl rfl)
theorem dX7_heightIn_10 : decode cX7_heightIn 10 = .ok (.imul, 1) := dk_104 (dk_at dksX7_heightIn_0 10 rfl rfl)
theorem dX7_heightIn_11 : decode cX7_heightIn 11 = .ok (.iadd, 1) := dk_96 (dk_at dksX7_heightIn_0 11 rfl rfl)
theorem dX7_heightIn_12 : decode cX7_heightIn 12 = .ok (.ireturn, 1) := dk_172 (dk_at dksX7_heightIn_0 12 rfl rfl)
abbrev cX7_said : ByteArray := prog_4_method_4_code
def yX7_said : MethodName := ⟨RX7, "said", "()I"⟩
def dkwX7_said_0 : List UInt8 := [42, 5, 182, 0, 21, 42, 183, 0, 24, 96, 16, 100, 96, 172]
abbrev dktX7_said_0 : List UInt8 := dkwX7_said_0 ++ []
theorem dksX7_said_0 : cX7_said.data.toList.drop 0 = dktX7_said_0 := by decide +kernel
theorem dX7_said_0 : decode cX7_said 0 = .ok (.aload_n 0, 1) := dk_42 (dk_at dksX7_said_0 0 rfl rfl)
theorem dX7_said_1 : decode cX7_said 1 = .ok (.iconst 2, 1) := dk_5 (dk_at dksX7_said_0 1 rfl rfl)
theorem dX7_said_2 : decode cX7_said 2 = .ok (.invokevirtual 21, 3) := dk_182 0 21 (dk_at dksX7_said_0 2 rfl rfl)
theorem dX7_said_5 : decode cX7_said 5 = .ok (.aload_n 0, 1) := dk_42 (dk_at dksX7_said_0 5 rfl rfl)
theorem dX7_said_6 : decode cX7_said 6 = .ok (.invokespecial 24, 3) := dk_183 0 24 (dk_at dksX7_said_0 6 rfl rfl)
theorem dX7_said_9 : decode cX7_said 9 = .ok (.iadd, 1) := dk_96 (dk_at dksX7_said_0 9 rfl rfl)
theorem dX7_said_10 : decode cX7_said 10 = .ok (.bipush 100, 2) := dk_16 100 (dk_at dksX7_said_0 10 rfl rfl)
theorem dX7_said_12 : decode cX7_said 12 = .ok (.iadd, 1) := dk_96 (dk_at dksX7_said_0 12 rfl rfl)
theorem dX7_said_13 : decode cX7_said 13 = .ok (.ireturn, 1) := dk_172 (dk_at dksX7_said_0 13 rfl rfl)
abbrev cX7_plainly : ByteArray := prog_4_method_5_code
def yX7_plainly : MethodName := ⟨RX7, "plainly", "()I"⟩
theorem dX7_plainly_0 : decode cX7_plainly 0 = .ok (.aload_n 0, 1) := by decide +kernel
theorem dX7_plainly_1 : decode cX7_plainly 1 = .ok (.invokespecial 24, 3) := by decide +kernel
theorem dX7_plainly_4 : decode cX7_plainly 4 = .ok (.ireturn, 1) := by decide +kernel
theorem q76 : (Jvm.Cond.initialized "ThirdEbb$Bridged") ∈ lw_all := lw_g (lw_at lw_m1 27 rfl) rfl
theorem q267 : (Jvm.Cond.sameField "ThirdEbb$Bridged" "ThirdEbb$Soft" "number" "I") ∈ lw_all := lw_g (lw_at lw_m1 218 rfl) rfl
theorem q275 : (Jvm.Cond.fieldLink "ThirdEbb$Bridged" (17 : Nat) "ThirdEbb$Bridged" "mended" "I") ∈ lw_all := lw_g (lw_at lw_m1 226 rfl) rfl
theorem q276 : (Jvm.Cond.sameField "ThirdEbb$Bridged" "ThirdEbb$Soft" "mended" "I") ∈ lw_all := lw_g (lw_at lw_m1 227 rfl) rfl
theorem q296 : (Jvm.Cond.instantiable "ThirdEbb$Bridged" (8 : Nat)) ∈ lw_all := lw_g (lw_at lw_m2 7 rfl) rfl
theorem q298 : (Jvm.Cond.instanceMethod ({ cls := "ThirdEbb$Bridged", name := "<init>", desc := "(LThirdEbb;IIIII)V" } : Jvm.MethodName)) ∈ lw_all := lw_g (lw_at lw_m2 9 rfl) rfl
theorem q299 : (Jvm.Cond.code ({ cls := "ThirdEbb$Bridged", name := "<init>", desc := "(LThirdEbb;IIIII)V" } : Jvm.MethodName) prog_4_method_1_code (7 : Nat) (Option.none : Option Jvm.ClassFile.FieldType)) ∈ lw_all := lw_g (lw_at lw_m2 10 rfl) rfl
theorem q300 : (Jvm.Cond.methodLink "ThirdEbb$Bridged" (7 : Nat) ({ cls := "ThirdEbb$Soft", name := "<init>", desc := "(LThirdEbb;IIIII)V" } : Jvm.MethodName)) ∈ lw_all := lw_g (lw_at lw_m2 11 rfl) rfl
theorem q301 : (Jvm.Cond.fieldLink "ThirdEbb$Bridged" (1 : Nat) "ThirdEbb$Bridged" "this$0" "LThirdEbb;") ∈ lw_all := lw_g (lw_at lw_m2 12 rfl) rfl
theorem q302 : (Jvm.Cond.laysFinal "ThirdEbb$Bridged" "ThirdEbb$Bridged" "this$0" "LThirdEbb;") ∈ lw_all := lw_g (lw_at lw_m2 13 rfl) rfl
theorem q303 : (Jvm.Cond.soleField "ThirdEbb$Bridged" "this$0") ∈ lw_all := lw_g (lw_at lw_m2 14 rfl) rfl
theorem q304 : (Jvm.Cond.laysFinal "ThirdEbb$Bridged" "ThirdEbb$Soft" "number" "I") ∈ lw_all := lw_g (lw_at lw_m2 15 rfl) rfl
theorem q305 : (Jvm.Cond.laysFinal "ThirdEbb$Bridged" "ThirdEbb$Soft" "a" "I") ∈ lw_all := lw_g (lw_at lw_m2 16 rfl) rfl
theorem q306 : (Jvm.Cond.laysFinal "ThirdEbb$Bridged" "ThirdEbb$Soft" "b" "I") ∈ lw_all := lw_g (lw_at lw_m2 17 rfl) rfl
theorem q307 : (Jvm.Cond.laysFinal "ThirdEbb$Bridged" "ThirdEbb$Soft" "bed" "I") ∈ lw_all := lw_g (lw_at lw_m2 18 rfl) rfl
theorem q308 : (Jvm.Cond.laysFinal "ThirdEbb$Bridged" "ThirdEbb$Soft" "length" "I") ∈ lw_all := lw_g (lw_at lw_m2 19 rfl) rfl
theorem q309 : (Jvm.Cond.lays "ThirdEbb$Bridged" "ThirdEbb$Soft" "mended" "I") ∈ lw_all := lw_g (lw_at lw_m2 20 rfl) rfl
theorem q310 : (Jvm.Cond.laysFinal "ThirdEbb$Bridged" "ThirdEbb$Soft" "this$0" "LThirdEbb;") ∈ lw_all := lw_g (lw_at lw_m2 21 rfl) rfl
theorem q311 : (Jvm.Cond.superclass "ThirdEbb$Bridged" "ThirdEbb$Soft") ∈ lw_all := lw_g (lw_at lw_m2 22 rfl) rfl
theorem q369 : (Jvm.Cond.selects "ThirdEbb$Bridged" ({ cls := "java/lang/Object", name := "getClass", desc := "()Ljava/lang/Class;" } : Jvm.MethodName) ({ cls := "java/lang/Object", name := "getClass", desc := "()Ljava/lang/Class;" } : Jvm.MethodName)) ∈ lw_all := lw_g (lw_at lw_m2 80 rfl) rfl
theorem q411 : (Jvm.Cond.selects "ThirdEbb$Bridged" ({ cls := "ThirdEbb$Soft", name := "asked", desc := "(I)I" } : Jvm.MethodName) ({ cls := "ThirdEbb$Soft", name := "asked", desc := "(I)I" } : Jvm.MethodName)) ∈ lw_all := lw_g (lw_at lw_m2 122 rfl) rfl
theorem q418 : (Jvm.Cond.selects "ThirdEbb$Bridged" ({ cls := "ThirdEbb$Soft", name := "kind", desc := "()I" } : Jvm.MethodName) ({ cls := "ThirdEbb$Bridged", name := "kind", desc := "()I" } : Jvm.MethodName)) ∈ lw_all := lw_g (lw_at lw_m2 129 rfl) rfl
theorem q419 : (Jvm.Cond.instanceMethod ({ cls := "ThirdEbb$Bridged", name := "kind", desc := "()I" } : Jvm.MethodName)) ∈ lw_all := lw_g (lw_at lw_m2 130 rfl) rfl
theorem q420 : (Jvm.Cond.code ({ cls := "ThirdEbb$Bridged", name := "kind", desc := "()I" } : Jvm.MethodName) prog_4_method_2_code (1 : Nat) (Option.some Jvm.ClassFile.FieldType.int)) ∈ lw_all := lw_g (lw_at lw_m2 131 rfl) rfl
theorem q438 : (Jvm.Cond.selects "ThirdEbb$Bridged" ({ cls := "ThirdEbb$Soft", name := "heightIn", desc := "(I)I" } : Jvm.MethodName) ({ cls := "ThirdEbb$Bridged", name := "heightIn", desc := "(I)I" } : Jvm.MethodName)) ∈ lw_all := lw_g (lw_at lw_m2 149 rfl) rfl
theorem q439 : (Jvm.Cond.instanceMethod ({ cls := "ThirdEbb$Bridged", name := "heightIn", desc := "(I)I" } : Jvm.MethodName)) ∈ lw_all := lw_g (lw_at lw_m2 150 rfl) rfl
theorem q440 : (Jvm.Cond.code ({ cls := "ThirdEbb$Bridged", name := "heightIn", desc := "(I)I" } : Jvm.MethodName) prog_4_method_3_code (2 : Nat) (Option.some Jvm.ClassFile.FieldType.int)) ∈ lw_all := lw_g (lw_at lw_m2 151 rfl) rfl
theorem q441 : (Jvm.Cond.methodLink "ThirdEbb$Bridged" (13 : Nat) ({ cls := "ThirdEbb$Soft", name := "heightIn", desc := "(I)I" } : Jvm.MethodName)) ∈ lw_all := lw_g (lw_at lw_m2 152 rfl) rfl
theorem q478 : (Jvm.Cond.selects "ThirdEbb$Bridged" ({ cls := "ThirdEbb$Soft", name := "takes", desc := "(Z)I" } : Jvm.MethodName) ({ cls := "ThirdEbb$Soft", name := "takes", desc := "(Z)I" } : Jvm.MethodName)) ∈ lw_all := lw_g (lw_at lw_m2 189 rfl) rfl
theorem q500 : (Jvm.Cond.selects "ThirdEbb$Bridged" ({ cls := "ThirdEbb$Soft", name := "joins", desc := "(I)Z" } : Jvm.MethodName) ({ cls := "ThirdEbb$Soft", name := "joins", desc := "(I)Z" } : Jvm.MethodName)) ∈ lw_all := lw_g (lw_at lw_m2 211 rfl) rfl
theorem q507 : (Jvm.Cond.selects "ThirdEbb$Bridged" ({ cls := "ThirdEbb$Soft", name := "other", desc := "(I)I" } : Jvm.MethodName) ({ cls := "ThirdEbb$Soft", name := "other", desc := "(I)I" } : Jvm.MethodName)) ∈ lw_all := lw_g (lw_at lw_m2 218 rfl) rfl
theorem q1035 : (Jvm.Cond.selects "ThirdEbb$Bridged" ({ cls := "ThirdEbb$Soft", name := "said", desc := "()I" } : Jvm.MethodName) ({ cls := "ThirdEbb$Bridged", name := "said", desc := "()I" } : Jvm.MethodName)) ∈ lw_all := lw_g (lw_at lw_m5 26 rfl) rfl
theorem q1036 : (Jvm.Cond.instanceMethod ({ cls := "ThirdEbb$Bridged", name := "said", desc := "()I" } : Jvm.MethodName)) ∈ lw_all := lw_g (lw_at lw_m5 27 rfl) rfl
theorem q1037 : (Jvm.Cond.code ({ cls := "ThirdEbb$Bridged", name := "said", desc := "()I" } : Jvm.MethodName) prog_4_method_4_code (1 : Nat) (Option.some Jvm.ClassFile.FieldType.int)) ∈ lw_all := lw_g (lw_at lw_m5 28 rfl) rfl
theorem q1038 : (Jvm.Cond.methodLink "ThirdEbb$Bridged" (21 : Nat) ({ cls := "ThirdEbb$Bridged", name := "tracedBy", desc := "(I)I" } : Jvm.MethodName)) ∈ lw_all := lw_g (lw_at lw_m5 29 rfl) rfl
theorem q1039 : (Jvm.Cond.sameMethod "ThirdEbb$Bridged" "ThirdEbb$Soft" "tracedBy" "(I)I") ∈ lw_all := lw_g (lw_at lw_m5 30 rfl) rfl
theorem q1041 : (Jvm.Cond.selects "ThirdEbb$Bridged" ({ cls := "ThirdEbb$Bridged", name := "tracedBy", desc := "(I)I" } : Jvm.MethodName) ({ cls := "ThirdEbb$Soft", name := "tracedBy", desc := "(I)I" } : Jvm.MethodName)) ∈ lw_all := lw_g (lw_at lw_m5 32 rfl) rfl
theorem q1045 : (Jvm.Cond.methodLink "ThirdEbb$Bridged" (24 : Nat) ({ cls := "ThirdEbb$Soft", name := "said", desc := "()I" } : Jvm.MethodName)) ∈ lw_all := lw_g (lw_at lw_m5 36 rfl) rfl
theorem q1055 : (Jvm.Cond.declares ({ cls := "ThirdEbb$Bridged", name := "plainly", desc := "()I" } : Jvm.MethodName)) ∈ lw_tbl := lw_at lw_m5 46 rfl
theorem q1057 : (Jvm.Cond.instanceMethod ({ cls := "ThirdEbb$Bridged", name := "plainly", desc := "()I" } : Jvm.MethodName)) ∈ lw_all := lw_g (lw_at lw_m5 48 rfl) rfl
theorem q1058 : (Jvm.Cond.code ({ cls := "ThirdEbb$Bridged", name := "plainly", desc := "()I" } : Jvm.MethodName) prog_4_method_5_code (1 : Nat) (Option.some Jvm.ClassFile.FieldType.int)) ∈ lw_all := lw_g (lw_at lw_m5 49 rfl) rfl
theorem q1070 : (Jvm.Cond.castable "ThirdEbb$Bridged" "ThirdEbb$Staked") ∈ lw_tbl := lw_at lw_m5 61 rfl
theorem q1071 : (Jvm.Cond.unhidden "ThirdEbb$Bridged" "staked" "()I") ∈ lw_tbl := lw_at lw_m5 62 rfl
theorem q1079 : (Jvm.Cond.selects "ThirdEbb$Bridged" ({ cls := "ThirdEbb$Staked", name := "tracedBy", desc := "(I)I" } : Jvm.MethodName) ({ cls := "ThirdEbb$Soft", name := "tracedBy", desc := "(I)I" } : Jvm.MethodName)) ∈ lw_all := lw_g (lw_at lw_m5 70 rfl) rfl
theorem q1080 : (Jvm.Cond.unhidden "ThirdEbb$Bridged" "tracedBy" "(I)I") ∈ lw_tbl := lw_at lw_m5 71 rfl
theorem q1092 : (Jvm.Cond.selects "ThirdEbb$Bridged" ({ cls := "ThirdEbb$Staked", name := "number", desc := "()I" } : Jvm.MethodName) ({ cls := "ThirdEbb$Soft", name := "number", desc := "()I" } : Jvm.MethodName)) ∈ lw_all := lw_g (lw_at lw_m5 83 rfl) rfl
theorem q1093 : (Jvm.Cond.unhidden "ThirdEbb$Bridged" "number" "()I") ∈ lw_tbl := lw_at lw_m5 84 rfl
theorem q1489 : (Jvm.Cond.sameMethod "ThirdEbb$Bridged" "ThirdEbb$Bridged" "heightIn" "(I)I") ∈ lw_all := lw_g (lw_at lw_m7 0 rfl) rfl
theorem q1491 : (Jvm.Cond.sameMethod "ThirdEbb$Bridged" "ThirdEbb$Bridged" "said" "()I") ∈ lw_all := lw_g (lw_at lw_m7 2 rfl) rfl
theorem q1493 : (Jvm.Cond.selects "ThirdEbb$Bridged" ({ cls := "ThirdEbb$Soft", name := "tracedBy", desc := "(I)I" } : Jvm.MethodName) ({ cls := "ThirdEbb$Soft", name := "tracedBy", desc := "(I)I" } : Jvm.MethodName)) ∈ lw_all := lw_g (lw_at lw_m7 4 rfl) rfl
theorem q1497 : (Jvm.Cond.castable "ThirdEbb$Bridged" "ThirdEbb$Soft") ∈ lw_tbl := lw_at lw_m7 8 rfl
theorem q1513 : (Jvm.Cond.castable "ThirdEbb$Bridged" "java/lang/Object") ∈ lw_tbl := lw_at lw_m7 24 rfl
theorem in_X7 : ∀ w ∈ wsX70, w ∈ lw_all := lw_in wsX70 [304, 305, 306, 307, 308, 309, 310, 302] (by decide +kernel) (by decide +kernel)

/-! ThirdEbb$Shifting -/
set_option maxRecDepth 100000
def RX8 : String := "ThirdEbb$Shifting"
def TX8 : u_T := fun k => match k with
  | 0 => ("ThirdEbb$Soft", "number", "I", true)
  | 1 => ("ThirdEbb$Soft", "a", "I", true)
  | 2 => ("ThirdEbb$Soft", "b", "I", true)
  | 3 => ("ThirdEbb$Soft", "bed", "I", true)
  | 4 => ("ThirdEbb$Soft", "length", "I", true)
  | 5 => ("ThirdEbb$Soft", "mended", "I", false)
  | 6 => ("ThirdEbb$Soft", "this$0", "LThirdEbb;", true)
  | 7 => ("ThirdEbb$Bridged", "this$0", "LThirdEbb;", true)
  | _ => ("ThirdEbb$Shifting", "this$0", "LThirdEbb;", true)
def tyX8 : Nat → FieldType := fun k => match k with
  | 0 => .int
  | 1 => .int
  | 2 => .int
  | 3 => .int
  | 4 => .int
  | 5 => .int
  | 6 => .object "ThirdEbb"
  | 7 => .object "ThirdEbb"
  | _ => .object "ThirdEbb"
abbrev wsX80 : List Cond := u_ws RX8 TX8 9
-- two fields of one name: no nmX8
theorem tyX8_ok : ∀ k, k < 9 → parseFieldDescriptor (TX8 k).2.2.1 = some (tyX8 k) := by decide +kernel
abbrev cX8_init : ByteArray := prog_11_method_1_code
def yX8_init : MethodName := ⟨RX8, "<init>", "(LThirdEbb;IIIII)V"⟩
def dkwX8_init_0 : List UInt8 := [42, 43, 181, 0, 1, 42, 43, 28, 29, 21, 4, 21, 5, 21, 6, 183, 0, 7, 177]
abbrev dktX8_init_0 : List UInt8 := dkwX8_init_0 ++ []
theorem dksX8_init_0 : cX8_init.data.toList.drop 0 = dktX8_init_0 := by decide +kernel
theorem dX8_init_0 : decode cX8_init 0 = .ok (.aload_n 0, 1) := dk_42 (dk_at dksX8_init_0 0 rfl rfl)
theorem dX8_init_1 : decode cX8_init 1 = .ok (.aload_n 1, 1) := dk_43 (dk_at dksX8_init_0 1 rfl rfl)
theorem dX8_init_2 : decode cX8_init 2 = .ok (.putfield 1, 3) := dk_181 0 1 (dk_at dksX8_init_0 2 rfl rfl)
theorem dX8_init_5 : decode cX8_init 5 = .ok (.aload_n 0, 1) := dk_42 (dk_at dksX8_init_0 5 rfl rfl)
theorem dX8_init_6 : decode cX8_init 6 = .ok (.aload_n 1, 1) := dk_43 (dk_at dksX8_init_0 6 rfl rfl)
theorem dX8_init_7 : decode cX8_init 7 = .ok (.iload_n 2, 1) := dk_28 (dk_at dksX8_init_0 7 rfl rfl)
theorem dX8_init_8 : decode cX8_init 8 = .ok (.iload_n 3, 1) := dk_29 (dk_at dksX8_init_0 8 rfl rfl)
theorem dX8_init_9 : decode cX8_init 9 = .ok (.iload 4, 2) := dk_21 4 (dk_at dksX8_init_0 9 rfl rfl)
theorem dX8_init_11 : decode cX8_init 11 = .ok (.iload 5, 2) := dk_21 5 (dk_at dksX8_init_0 11 rfl rfl)
theorem dX8_init_13 : decode cX8_init 13 = .ok (.iload 6, 2) := dk_21 6 (dk_at dksX8_init_0 13 rfl rfl)
theorem dX8_init_15 : decode cX8_init 15 = .ok (.invokespecial 7, 3) := dk_183 0 7 (dk_at dksX8_init_0 15 rfl rfl)
theorem dX8_init_18 : decode cX8_init 18 = .ok (.return_, 1) := dk_177 (dk_at dksX8_init_0 18 rfl rfl)
abbrev cX8_kind : ByteArray := prog_11_method_2_code
def yX8_kind : MethodName := ⟨RX8, "kind", "()I"⟩
theorem dX8_kind_0 : decode cX8_kind 0 = .ok (.iconst 2, 1) := by decide +kernel
theorem dX8_kind_1 : decode cX8_kind 1 = .ok (.ireturn, 1) := by decide +kernel
abbrev cX8_heightIn : ByteArray := prog_11_method_3_code
def yX8_heightIn : MethodName := ⟨RX8, "heightIn", "(I)I"⟩
def dkwX8_heightIn_0 : List UInt8 := [3, 42, 27, 183, 0, 13, 27, 16, 100, 108, 100, 184, 0, 17, 172]
abbrev dktX8_heightIn_0 : List UInt8 := dkwX8_heightIn_0 ++ []
theorem dksX8_heightIn_0 : cX8_heightIn.data.toList.drop 0 = dktX8_heightIn_0 := by decide +kernel
theorem dX8_heightIn_0 : decode cX8_heightIn 0 = .ok (.iconst 0, 1) := dk_3 (dk_at dksX8_heightIn_0 0 rfl rfl)
theorem dX8_heightIn_1 : decode cX8_heightIn 1 = .ok (.aload_n 0, 1) := dk_42 (dk_at dksX8_heightIn_0 1 rfl rfl)
theorem dX8_heightIn_2 : decode cX8_heightIn 2 = .ok (.iload_n 1, 1) := dk_27 (dk_at dksX8_heightIn_0 2 rfl rfl)
theorem dX8_heightIn_3 : decode cX8_heightIn 3 = .ok (.invokespecial 13, 3) := dk_183 0 13 (dk_at dksX8_heightIn_0 3 rfl rfl)
theorem dX8_heightIn_6 : decode cX8_heightIn 6 = .ok (.iload_n 1, 1) := dk_27 (dk_at dksX8_heightIn_0 6 rfl rfl)
theorem dX8_heightIn_7 : decode cX8_heightIn 7 = .ok (.bipush 100, 2) := dk_16 100 (dk_at dksX8_heightIn_0 7 rfl rfl)
theorem dX8_heightIn_9 : decode cX8_heightIn 9 = .ok (.idiv, 1) := dk_108 (dk_at dksX8_heightIn_0 9 rfl rfl)
theorem dX8_heightIn_10 : decode cX8_heightIn 10 = .ok (.isub, 1) := dk_100 (dk_at dksX8_heightIn_0 10 rfl rfl)
theorem dX8_heightIn_11 : decode cX8_heightIn 11 = .ok (.invokestatic 17, 3) := dk_184 0 17 (dk_at dksX8_heightIn_0 11 rfl rfl)
theorem dX8_heightIn_14 : decode cX8_heightIn 14 = .ok (.ireturn, 1) := dk_172 (dk_at dksX8_heightIn_0 14 rfl rfl)
abbrev cX8_said : ByteArray := prog_11_method_4_code
def yX8_said : MethodName := ⟨RX8, "said", "()I"⟩
def dkwX8_said_0 : List UInt8 := [42, 6, 182, 0, 23, 42, 183, 0, 26, 96, 42, 182, 0, 30, 96, 172]
abbrev dktX8_said_0 : List UInt8 := dkwX8_said_0 ++ []
theorem dksX8_said_0 : cX8_said.data.toList.drop 0 = dktX8_said_0 := by decide +kernel
theorem dX8_said_0 : decode cX8_said 0 = .ok (.aload_n 0, 1) := dk_42 (dk_at dksX8_said_0 0 rfl rfl)
theorem dX8_said_1 : decode cX8_said 1 = .ok (.iconst 3, 1) := dk_6 (dk_at dksX8_said_0 1 rfl rfl)
theorem dX8_said_2 : decode cX8_said 2 = .ok (.invokevirtual 23, 3) := dk_182 0 23 (dk_at dksX8_said_0 2 rfl rfl)
theorem dX8_said_5 : decode cX8_said 5 = .ok (.aload_n 0, 1) := dk_42 (dk_at dksX8_said_0 5 rfl rfl)
theorem dX8_said_6 : decode cX8_said 6 = .ok (.invokespecial 26, 3) := dk_183 0 26 (dk_at dksX8_said_0 6 rfl rfl)
theorem dX8_said_9 : decode cX8_said 9 = .ok (.iadd, 1) := dk_96 (dk_at dksX8_said_0 9 rfl rfl)
theorem dX8_said_10 : decode cX8_said 10 = .ok (.aload_n 0, 1) := dk_42 (dk_at dksX8_said_0 10 rfl rfl)
theorem dX8_said_11 : decode cX8_said 11 = .ok (.invokevirtual 30, 3) := dk_182 0 30 (dk_at dksX8_said_0 11 rfl rfl)
theorem dX8_said_14 : decode cX8_said 14 = .ok (.iadd, 1) := dk_96 (dk_at dksX8_said_0 14 rfl rfl)
theorem dX8_said_15 : decode cX8_said 15 = .ok (.ireturn, 1) := dk_172 (dk_at dksX8_said_0 15 rfl rfl)
abbrev cX8_staked : ByteArray := prog_11_method_5_code
def yX8_staked : MethodName := ⟨RX8, "staked", "()I"⟩
def dkwX8_staked_0 : List UInt8 := [42, 8, 182, 0, 23, 16, 40, 96, 172]
abbrev dktX8_staked_0 : List UInt8 := dkwX8_staked_0 ++ []
theorem dksX8_staked_0 : cX8_staked.data.toList.drop 0 = dktX8_staked_0 := by decide +kernel
theorem dX8_staked_0 : decode cX8_staked 0 = .ok (.aload_n 0, 1) := dk_42 (dk_at dksX8_staked_0 0 rfl rfl)
theorem dX8_staked_1 : decode cX8_staked 1 = .ok (.iconst 5, 1) := dk_8 (dk_at dksX8_staked_0 1 rfl rfl)
theorem dX8_staked_2 : decode cX8_staked 2 = .ok (.invokevirtual 23, 3) := dk_182 0 23 (dk_at dksX8_staked_0 2 rfl rfl)
theorem dX8_staked_5 : decode cX8_staked 5 = .ok (.bipush 40, 2) := dk_16 40 (dk_at dksX8_staked_0 5 rfl rfl)
theorem dX8_staked_7 : decode cX8_staked 7 = .ok (.iadd, 1) := dk_96 (dk_at dksX8_staked_0 7 rfl rfl)
theorem dX8_staked_8 : decode cX8_staked 8 = .ok (.ireturn, 1) := dk_172 (dk_at dksX8_staked_0 8 rfl rfl)
theorem q77 : (Jvm.Cond.initialized "ThirdEbb$Shifting") ∈ lw_all := lw_g (lw_at lw_m1 28 rfl) rfl
theorem q269 : (Jvm.Cond.sameField "ThirdEbb$Shifting" "ThirdEbb$Soft" "number" "I") ∈ lw_all := lw_g (lw_at lw_m1 220 rfl) rfl
theorem q313 : (Jvm.Cond.instantiable "ThirdEbb$Shifting" (9 : Nat)) ∈ lw_all := lw_g (lw_at lw_m2 24 rfl) rfl
theorem q315 : (Jvm.Cond.instanceMethod ({ cls := "ThirdEbb$Shifting", name := "<init>", desc := "(LThirdEbb;IIIII)V" } : Jvm.MethodName)) ∈ lw_all := lw_g (lw_at lw_m2 26 rfl) rfl
theorem q316 : (Jvm.Cond.code ({ cls := "ThirdEbb$Shifting", name := "<init>", desc := "(LThirdEbb;IIIII)V" } : Jvm.MethodName) prog_11_method_1_code (7 : Nat) (Option.none : Option Jvm.ClassFile.FieldType)) ∈ lw_all := lw_g (lw_at lw_m2 27 rfl) rfl
theorem q317 : (Jvm.Cond.methodLink "ThirdEbb$Shifting" (7 : Nat) ({ cls := "ThirdEbb$Bridged", name := "<init>", desc := "(LThirdEbb;IIIII)V" } : Jvm.MethodName)) ∈ lw_all := lw_g (lw_at lw_m2 28 rfl) rfl
theorem q318 : (Jvm.Cond.fieldLink "ThirdEbb$Shifting" (1 : Nat) "ThirdEbb$Shifting" "this$0" "LThirdEbb;") ∈ lw_all := lw_g (lw_at lw_m2 29 rfl) rfl
theorem q319 : (Jvm.Cond.laysFinal "ThirdEbb$Shifting" "ThirdEbb$Shifting" "this$0" "LThirdEbb;") ∈ lw_all := lw_g (lw_at lw_m2 30 rfl) rfl
theorem q320 : (Jvm.Cond.soleField "ThirdEbb$Shifting" "this$0") ∈ lw_all := lw_g (lw_at lw_m2 31 rfl) rfl
theorem q321 : (Jvm.Cond.laysFinal "ThirdEbb$Shifting" "ThirdEbb$Bridged" "this$0" "LThirdEbb;") ∈ lw_all := lw_g (lw_at lw_m2 32 rfl) rfl
theorem q322 : (Jvm.Cond.laysFinal "ThirdEbb$Shifting" "ThirdEbb$Soft" "number" "I") ∈ lw_all := lw_g (lw_at lw_m2 33 rfl) rfl
theorem q323 : (Jvm.Cond.laysFinal "ThirdEbb$Shifting" "ThirdEbb$Soft" "a" "I") ∈ lw_all := lw_g (lw_at lw_m2 34 rfl) rfl
theorem q324 : (Jvm.Cond.laysFinal "ThirdEbb$Shifting" "ThirdEbb$Soft" "b" "I") ∈ lw_all := lw_g (lw_at lw_m2 35 rfl) rfl
theorem q325 : (Jvm.Cond.laysFinal "ThirdEbb$Shifting" "ThirdEbb$Soft" "bed" "I") ∈ lw_all := lw_g (lw_at lw_m2 36 rfl) rfl
theorem q326 : (Jvm.Cond.laysFinal "ThirdEbb$Shifting" "ThirdEbb$Soft" "length" "I") ∈ lw_all := lw_g (lw_at lw_m2 37 rfl) rfl
theorem q327 : (Jvm.Cond.lays "ThirdEbb$Shifting" "ThirdEbb$Soft" "mended" "I") ∈ lw_all := lw_g (lw_at lw_m2 38 rfl) rfl
theorem q328 : (Jvm.Cond.laysFinal "ThirdEbb$Shifting" "ThirdEbb$Soft" "this$0" "LThirdEbb;") ∈ lw_all := lw_g (lw_at lw_m2 39 rfl) rfl
theorem q329 : (Jvm.Cond.superclass "ThirdEbb$Shifting" "ThirdEbb$Bridged") ∈ lw_all := lw_g (lw_at lw_m2 40 rfl) rfl
theorem q375 : (Jvm.Cond.selects "ThirdEbb$Shifting" ({ cls := "java/lang/Object", name := "getClass", desc := "()Ljava/lang/Class;" } : Jvm.MethodName) ({ cls := "java/lang/Object", name := "getClass", desc := "()Ljava/lang/Class;" } : Jvm.MethodName)) ∈ lw_all := lw_g (lw_at lw_m2 86 rfl) rfl
theorem q412 : (Jvm.Cond.selects "ThirdEbb$Shifting" ({ cls := "ThirdEbb$Soft", name := "asked", desc := "(I)I" } : Jvm.MethodName) ({ cls := "ThirdEbb$Soft", name := "asked", desc := "(I)I" } : Jvm.MethodName)) ∈ lw_all := lw_g (lw_at lw_m2 123 rfl) rfl
theorem q421 : (Jvm.Cond.selects "ThirdEbb$Shifting" ({ cls := "ThirdEbb$Soft", name := "kind", desc := "()I" } : Jvm.MethodName) ({ cls := "ThirdEbb$Shifting", name := "kind", desc := "()I" } : Jvm.MethodName)) ∈ lw_all := lw_g (lw_at lw_m2 132 rfl) rfl
theorem q422 : (Jvm.Cond.instanceMethod ({ cls := "ThirdEbb$Shifting", name := "kind", desc := "()I" } : Jvm.MethodName)) ∈ lw_all := lw_g (lw_at lw_m2 133 rfl) rfl
theorem q423 : (Jvm.Cond.code ({ cls := "ThirdEbb$Shifting", name := "kind", desc := "()I" } : Jvm.MethodName) prog_11_method_2_code (1 : Nat) (Option.some Jvm.ClassFile.FieldType.int)) ∈ lw_all := lw_g (lw_at lw_m2 134 rfl) rfl
theorem q442 : (Jvm.Cond.selects "ThirdEbb$Shifting" ({ cls := "ThirdEbb$Soft", name := "heightIn", desc := "(I)I" } : Jvm.MethodName) ({ cls := "ThirdEbb$Shifting", name := "heightIn", desc := "(I)I" } : Jvm.MethodName)) ∈ lw_all := lw_g (lw_at lw_m2 153 rfl) rfl
theorem q443 : (Jvm.Cond.instanceMethod ({ cls := "ThirdEbb$Shifting", name := "heightIn", desc := "(I)I" } : Jvm.MethodName)) ∈ lw_all := lw_g (lw_at lw_m2 154 rfl) rfl
theorem q444 : (Jvm.Cond.code ({ cls := "ThirdEbb$Shifting", name := "heightIn", desc := "(I)I" } : Jvm.MethodName) prog_11_method_3_code (2 : Nat) (Option.some Jvm.ClassFile.FieldType.int)) ∈ lw_all := lw_g (lw_at lw_m2 155 rfl) rfl
theorem q445 : (Jvm.Cond.methodLink "ThirdEbb$Shifting" (13 : Nat) ({ cls := "ThirdEbb$Bridged", name := "heightIn", desc := "(I)I" } : Jvm.MethodName)) ∈ lw_all := lw_g (lw_at lw_m2 156 rfl) rfl
theorem q446 : (Jvm.Cond.methodLink "ThirdEbb$Shifting" (17 : Nat) ({ cls := "java/lang/Math", name := "max", desc := "(II)I" } : Jvm.MethodName)) ∈ lw_all := lw_g (lw_at lw_m2 157 rfl) rfl
theorem q479 : (Jvm.Cond.selects "ThirdEbb$Shifting" ({ cls := "ThirdEbb$Soft", name := "takes", desc := "(Z)I" } : Jvm.MethodName) ({ cls := "ThirdEbb$Soft", name := "takes", desc := "(Z)I" } : Jvm.MethodName)) ∈ lw_all := lw_g (lw_at lw_m2 190 rfl) rfl
theorem q501 : (Jvm.Cond.selects "ThirdEbb$Shifting" ({ cls := "ThirdEbb$Soft", name := "joins", desc := "(I)Z" } : Jvm.MethodName) ({ cls := "ThirdEbb$Soft", name := "joins", desc := "(I)Z" } : Jvm.MethodName)) ∈ lw_all := lw_g (lw_at lw_m2 212 rfl) rfl
theorem q508 : (Jvm.Cond.selects "ThirdEbb$Shifting" ({ cls := "ThirdEbb$Soft", name := "other", desc := "(I)I" } : Jvm.MethodName) ({ cls := "ThirdEbb$Soft", name := "other", desc := "(I)I" } : Jvm.MethodName)) ∈ lw_all := lw_g (lw_at lw_m2 219 rfl) rfl
theorem q1042 : (Jvm.Cond.selects "ThirdEbb$Shifting" ({ cls := "ThirdEbb$Bridged", name := "tracedBy", desc := "(I)I" } : Jvm.MethodName) ({ cls := "ThirdEbb$Soft", name := "tracedBy", desc := "(I)I" } : Jvm.MethodName)) ∈ lw_all := lw_g (lw_at lw_m5 33 rfl) rfl
theorem q1046 : (Jvm.Cond.selects "ThirdEbb$Shifting" ({ cls := "ThirdEbb$Soft", name := "said", desc := "()I" } : Jvm.MethodName) ({ cls := "ThirdEbb$Shifting", name := "said", desc := "()I" } : Jvm.MethodName)) ∈ lw_all := lw_g (lw_at lw_m5 37 rfl) rfl
theorem q1047 : (Jvm.Cond.instanceMethod ({ cls := "ThirdEbb$Shifting", name := "said", desc := "()I" } : Jvm.MethodName)) ∈ lw_all := lw_g (lw_at lw_m5 38 rfl) rfl
theorem q1048 : (Jvm.Cond.code ({ cls := "ThirdEbb$Shifting", name := "said", desc := "()I" } : Jvm.MethodName) prog_11_method_4_code (1 : Nat) (Option.some Jvm.ClassFile.FieldType.int)) ∈ lw_all := lw_g (lw_at lw_m5 39 rfl) rfl
theorem q1049 : (Jvm.Cond.methodLink "ThirdEbb$Shifting" (23 : Nat) ({ cls := "ThirdEbb$Shifting", name := "tracedBy", desc := "(I)I" } : Jvm.MethodName)) ∈ lw_all := lw_g (lw_at lw_m5 40 rfl) rfl
theorem q1050 : (Jvm.Cond.sameMethod "ThirdEbb$Shifting" "ThirdEbb$Soft" "tracedBy" "(I)I") ∈ lw_all := lw_g (lw_at lw_m5 41 rfl) rfl
theorem q1051 : (Jvm.Cond.selects "ThirdEbb$Shifting" ({ cls := "ThirdEbb$Shifting", name := "tracedBy", desc := "(I)I" } : Jvm.MethodName) ({ cls := "ThirdEbb$Soft", name := "tracedBy", desc := "(I)I" } : Jvm.MethodName)) ∈ lw_all := lw_g (lw_at lw_m5 42 rfl) rfl
theorem q1052 : (Jvm.Cond.methodLink "ThirdEbb$Shifting" (26 : Nat) ({ cls := "ThirdEbb$Bridged", name := "said", desc := "()I" } : Jvm.MethodName)) ∈ lw_all := lw_g (lw_at lw_m5 43 rfl) rfl
theorem q1053 : (Jvm.Cond.methodLink "ThirdEbb$Shifting" (30 : Nat) ({ cls := "ThirdEbb$Shifting", name := "plainly", desc := "()I" } : Jvm.MethodName)) ∈ lw_all := lw_g (lw_at lw_m5 44 rfl) rfl
theorem q1054 : (Jvm.Cond.sameMethod "ThirdEbb$Shifting" "ThirdEbb$Bridged" "plainly" "()I") ∈ lw_all := lw_g (lw_at lw_m5 45 rfl) rfl
theorem q1056 : (Jvm.Cond.selects "ThirdEbb$Shifting" ({ cls := "ThirdEbb$Shifting", name := "plainly", desc := "()I" } : Jvm.MethodName) ({ cls := "ThirdEbb$Bridged", name := "plainly", desc := "()I" } : Jvm.MethodName)) ∈ lw_all := lw_g (lw_at lw_m5 47 rfl) rfl
theorem q1082 : (Jvm.Cond.castable "ThirdEbb$Shifting" "ThirdEbb$Staked") ∈ lw_tbl := lw_at lw_m5 73 rfl
theorem q1083 : (Jvm.Cond.selects "ThirdEbb$Shifting" ({ cls := "ThirdEbb$Staked", name := "tracedBy", desc := "(I)I" } : Jvm.MethodName) ({ cls := "ThirdEbb$Soft", name := "tracedBy", desc := "(I)I" } : Jvm.MethodName)) ∈ lw_all := lw_g (lw_at lw_m5 74 rfl) rfl
theorem q1084 : (Jvm.Cond.unhidden "ThirdEbb$Shifting" "tracedBy" "(I)I") ∈ lw_tbl := lw_at lw_m5 75 rfl
theorem q1097 : (Jvm.Cond.selects "ThirdEbb$Shifting" ({ cls := "ThirdEbb$Staked", name := "number", desc := "()I" } : Jvm.MethodName) ({ cls := "ThirdEbb$Soft", name := "number", desc := "()I" } : Jvm.MethodName)) ∈ lw_all := lw_g (lw_at lw_m5 88 rfl) rfl
theorem q1098 : (Jvm.Cond.unhidden "ThirdEbb$Shifting" "number" "()I") ∈ lw_tbl := lw_at lw_m5 89 rfl
theorem q1101 : (Jvm.Cond.selects "ThirdEbb$Shifting" ({ cls := "ThirdEbb$Staked", name := "staked", desc := "()I" } : Jvm.MethodName) ({ cls := "ThirdEbb$Shifting", name := "staked", desc := "()I" } : Jvm.MethodName)) ∈ lw_all := lw_g (lw_at lw_m5 92 rfl) rfl
theorem q1102 : (Jvm.Cond.unhidden "ThirdEbb$Shifting" "staked" "()I") ∈ lw_tbl := lw_at lw_m5 93 rfl
theorem q1103 : (Jvm.Cond.instanceMethod ({ cls := "ThirdEbb$Shifting", name := "staked", desc := "()I" } : Jvm.MethodName)) ∈ lw_all := lw_g (lw_at lw_m5 94 rfl) rfl
theorem q1104 : (Jvm.Cond.publicMethod ({ cls := "ThirdEbb$Shifting", name := "staked", desc := "()I" } : Jvm.MethodName)) ∈ lw_tbl := lw_at lw_m5 95 rfl
theorem q1105 : (Jvm.Cond.code ({ cls := "ThirdEbb$Shifting", name := "staked", desc := "()I" } : Jvm.MethodName) prog_11_method_5_code (1 : Nat) (Option.some Jvm.ClassFile.FieldType.int)) ∈ lw_all := lw_g (lw_at lw_m5 96 rfl) rfl
theorem q1494 : (Jvm.Cond.selects "ThirdEbb$Shifting" ({ cls := "ThirdEbb$Soft", name := "tracedBy", desc := "(I)I" } : Jvm.MethodName) ({ cls := "ThirdEbb$Soft", name := "tracedBy", desc := "(I)I" } : Jvm.MethodName)) ∈ lw_all := lw_g (lw_at lw_m7 5 rfl) rfl
theorem q1498 : (Jvm.Cond.castable "ThirdEbb$Shifting" "ThirdEbb$Soft") ∈ lw_tbl := lw_at lw_m7 9 rfl
theorem q1499 : (Jvm.Cond.castable "ThirdEbb$Shifting" "ThirdEbb$Bridged") ∈ lw_tbl := lw_at lw_m7 10 rfl
theorem q1514 : (Jvm.Cond.castable "ThirdEbb$Shifting" "java/lang/Object") ∈ lw_tbl := lw_at lw_m7 25 rfl
theorem in_X8 : ∀ w ∈ wsX80, w ∈ lw_all := lw_in wsX80 [322, 323, 324, 325, 326, 327, 328, 321, 319] (by decide +kernel) (by decide +kernel)

/-! ThirdEbb$Checking -/
set_option maxRecDepth 100000
def RX9 : String := "ThirdEbb$Checking"
def TX9 : u_T := fun k => match k with
  | 0 => ("ThirdEbb$Looking", "sheet", "I", true)
  | 1 => ("ThirdEbb$Looking", "sort", "I", true)
  | 2 => ("ThirdEbb$Looking", "i", "I", true)
  | 3 => ("ThirdEbb$Looking", "n", "I", true)
  | 4 => ("ThirdEbb$Looking", "this$0", "LThirdEbb;", true)
  | 5 => ("ThirdEbb$Act", "this$0", "LThirdEbb;", true)
  | 6 => ("ThirdEbb$Checking", "hour", "I", true)
  | _ => ("ThirdEbb$Checking", "this$0", "LThirdEbb;", true)
def tyX9 : Nat → FieldType := fun k => match k with
  | 0 => .int
  | 1 => .int
  | 2 => .int
  | 3 => .int
  | 4 => .object "ThirdEbb"
  | 5 => .object "ThirdEbb"
  | 6 => .int
  | _ => .object "ThirdEbb"
abbrev wsX90 : List Cond := u_ws RX9 TX9 8
-- two fields of one name: no nmX9
theorem tyX9_ok : ∀ k, k < 8 → parseFieldDescriptor (TX9 k).2.2.1 = some (tyX9 k) := by decide +kernel
abbrev cX9_look : ByteArray := prog_5_method_2_code
def yX9_look : MethodName := ⟨RX9, "look", "([I)I"⟩
def dkwX9_look_0 : List UInt8 := [42, 180, 0, 1, 42, 180, 0, 13, 43, 182, 0, 17, 172]
abbrev dktX9_look_0 : List UInt8 := dkwX9_look_0 ++ []
theorem dksX9_look_0 : cX9_look.data.toList.drop 0 = dktX9_look_0 := by decide +kernel
theorem dX9_look_0 : decode cX9_look 0 = .ok (.aload_n 0, 1) := dk_42 (dk_at dksX9_look_0 0 rfl rfl)
theorem dX9_look_1 : decode cX9_look 1 = .ok (.getfield 1, 3) := dk_180 0 1 (dk_at dksX9_look_0 1 rfl rfl)
theorem dX9_look_4 : decode cX9_look 4 = .ok (.aload_n 0, 1) := dk_42 (dk_at dksX9_look_0 4 rfl rfl)
theorem dX9_look_5 : decode cX9_look 5 = .ok (.getfield 13, 3) := dk_180 0 13 (dk_at dksX9_look_0 5 rfl rfl)
theorem dX9_look_8 : decode cX9_look 8 = .ok (.aload_n 1, 1) := dk_43 (dk_at dksX9_look_0 8 rfl rfl)
theorem dX9_look_9 : decode cX9_look 9 = .ok (.invokevirtual 17, 3) := dk_182 0 17 (dk_at dksX9_look_0 9 rfl rfl)
theorem dX9_look_12 : decode cX9_look 12 = .ok (.ireturn, 1) := dk_172 (dk_at dksX9_look_0 12 rfl rfl)
abbrev cX9_init : ByteArray := prog_5_method_1_code
def yX9_init : MethodName := ⟨RX9, "<init>", "(LThirdEbb;IIIII)V"⟩
def dkwX9_init_0 : List UInt8 := [42, 43, 181, 0, 1, 42, 43, 29, 21, 4, 21, 5, 21, 6, 183, 0, 7, 42, 28, 181, 0, 13, 177]
abbrev dktX9_init_0 : List UInt8 := dkwX9_init_0 ++ []
theorem dksX9_init_0 : cX9_init.data.toList.drop 0 = dktX9_init_0 := by decide +kernel
theorem dX9_init_0 : decode cX9_init 0 = .ok (.aload_n 0, 1) := dk_42 (dk_at dksX9_init_0 0 rfl rfl)
theorem dX9_init_1 : decode cX9_init 1 = .ok (.aload_n 1, 1) := dk_43 (dk_at dksX9_init_0 1 rfl rfl)
theorem dX9_init_2 : decode cX9_init 2 = .ok (.putfield 1, 3) := dk_181 0 1 (dk_at dksX9_init_0 2 rfl rfl)
theorem dX9_init_5 : decode cX9_init 5 = .ok (.aload_n 0, 1) := dk_42 (dk_at dksX9_init_0 5 rfl rfl)
theorem dX9_init_6 : decode cX9_init 6 = .ok (.aload_n 1, 1) := dk_43 (dk_at dksX9_init_0 6 rfl rfl)
theorem dX9_init_7 : decode cX9_init 7 = .ok (.iload_n 3, 1) := dk_29 (dk_at dksX9_init_0 7 rfl rfl)
theorem dX9_init_8 : decode cX9_init 8 = .ok (.iload 4, 2) := dk_21 4 (dk_at dksX9_init_0 8 rfl rfl)
theorem dX9_init_10 : decode cX9_init 10 = .ok (.iload 5, 2) := dk_21 5 (dk_at dksX9_init_0 10 rfl rfl)
theorem dX9_init_12 : decode cX9_init 12 = .ok (.iload 6, 2) := dk_21 6 (dk_at dksX9_init_0 12 rfl rfl)
theorem dX9_init_14 : decode cX9_init 14 = .ok (.invokespecial 7, 3) := dk_183 0 7 (dk_at dksX9_init_0 14 rfl rfl)
theorem dX9_init_17 : decode cX9_init 17 = .ok (.aload_n 0, 1) := dk_42 (dk_at dksX9_init_0 17 rfl rfl)
theorem dX9_init_18 : decode cX9_init 18 = .ok (.iload_n 2, 1) := dk_28 (dk_at dksX9_init_0 18 rfl rfl)
theorem dX9_init_19 : decode cX9_init 19 = .ok (.putfield 13, 3) := dk_181 0 13 (dk_at dksX9_init_0 19 rfl rfl)
theorem dX9_init_22 : decode cX9_init 22 = .ok (.return_, 1) := dk_177 (dk_at dksX9_init_0 22 rfl rfl)
theorem q78 : (Jvm.Cond.initialized "ThirdEbb$Checking") ∈ lw_all := lw_g (lw_at lw_m1 29 rfl) rfl
theorem q370 : (Jvm.Cond.selects "ThirdEbb$Checking" ({ cls := "java/lang/Object", name := "getClass", desc := "()Ljava/lang/Class;" } : Jvm.MethodName) ({ cls := "java/lang/Object", name := "getClass", desc := "()Ljava/lang/Class;" } : Jvm.MethodName)) ∈ lw_all := lw_g (lw_at lw_m2 81 rfl) rfl
theorem q797 : (Jvm.Cond.selects "ThirdEbb$Checking" ({ cls := "ThirdEbb$Looking", name := "tried", desc := "()I" } : Jvm.MethodName) ({ cls := "ThirdEbb$Act", name := "tried", desc := "()I" } : Jvm.MethodName)) ∈ lw_all := lw_g (lw_at lw_m4 28 rfl) rfl
theorem q856 : (Jvm.Cond.selects "ThirdEbb$Checking" ({ cls := "ThirdEbb$Looking", name := "look", desc := "([I)I" } : Jvm.MethodName) ({ cls := "ThirdEbb$Checking", name := "look", desc := "([I)I" } : Jvm.MethodName)) ∈ lw_all := lw_g (lw_at lw_m4 87 rfl) rfl
theorem q857 : (Jvm.Cond.instanceMethod ({ cls := "ThirdEbb$Checking", name := "look", desc := "([I)I" } : Jvm.MethodName)) ∈ lw_all := lw_g (lw_at lw_m4 88 rfl) rfl
theorem q858 : (Jvm.Cond.code ({ cls := "ThirdEbb$Checking", name := "look", desc := "([I)I" } : Jvm.MethodName) prog_5_method_2_code (2 : Nat) (Option.some Jvm.ClassFile.FieldType.int)) ∈ lw_all := lw_g (lw_at lw_m4 89 rfl) rfl
theorem q859 : (Jvm.Cond.methodLinkNest "ThirdEbb$Checking" (17 : Nat) ({ cls := "ThirdEbb", name := "firstFalse", desc := "(I[I)I" } : Jvm.MethodName) "ThirdEbb") ∈ lw_tbl := lw_at lw_m4 90 rfl
theorem q938 : (Jvm.Cond.selects "ThirdEbb$Checking" ({ cls := "ThirdEbb$Act", name := "done", desc := "()I" } : Jvm.MethodName) ({ cls := "ThirdEbb$Looking", name := "done", desc := "()I" } : Jvm.MethodName)) ∈ lw_all := lw_g (lw_at lw_m4 169 rfl) rfl
theorem q956 : (Jvm.Cond.instantiable "ThirdEbb$Checking" (8 : Nat)) ∈ lw_all := lw_g (lw_at lw_m4 187 rfl) rfl
theorem q958 : (Jvm.Cond.instanceMethod ({ cls := "ThirdEbb$Checking", name := "<init>", desc := "(LThirdEbb;IIIII)V" } : Jvm.MethodName)) ∈ lw_all := lw_g (lw_at lw_m4 189 rfl) rfl
theorem q959 : (Jvm.Cond.code ({ cls := "ThirdEbb$Checking", name := "<init>", desc := "(LThirdEbb;IIIII)V" } : Jvm.MethodName) prog_5_method_1_code (7 : Nat) (Option.none : Option Jvm.ClassFile.FieldType)) ∈ lw_all := lw_g (lw_at lw_m4 190 rfl) rfl
theorem q960 : (Jvm.Cond.methodLink "ThirdEbb$Checking" (7 : Nat) ({ cls := "ThirdEbb$Looking", name := "<init>", desc := "(LThirdEbb;IIII)V" } : Jvm.MethodName)) ∈ lw_all := lw_g (lw_at lw_m4 191 rfl) rfl
theorem q961 : (Jvm.Cond.fieldLink "ThirdEbb$Checking" (13 : Nat) "ThirdEbb$Checking" "hour" "I") ∈ lw_all := lw_g (lw_at lw_m4 192 rfl) rfl
theorem q962 : (Jvm.Cond.fieldLink "ThirdEbb$Checking" (1 : Nat) "ThirdEbb$Checking" "this$0" "LThirdEbb;") ∈ lw_all := lw_g (lw_at lw_m4 193 rfl) rfl
theorem q963 : (Jvm.Cond.laysFinal "ThirdEbb$Checking" "ThirdEbb$Checking" "hour" "I") ∈ lw_all := lw_g (lw_at lw_m4 194 rfl) rfl
theorem q964 : (Jvm.Cond.soleField "ThirdEbb$Checking" "hour") ∈ lw_all := lw_g (lw_at lw_m4 195 rfl) rfl
theorem q965 : (Jvm.Cond.laysFinal "ThirdEbb$Checking" "ThirdEbb$Checking" "this$0" "LThirdEbb;") ∈ lw_all := lw_g (lw_at lw_m4 196 rfl) rfl
theorem q966 : (Jvm.Cond.soleField "ThirdEbb$Checking" "this$0") ∈ lw_all := lw_g (lw_at lw_m4 197 rfl) rfl
theorem q967 : (Jvm.Cond.laysFinal "ThirdEbb$Checking" "ThirdEbb$Looking" "sheet" "I") ∈ lw_all := lw_g (lw_at lw_m4 198 rfl) rfl
theorem q968 : (Jvm.Cond.laysFinal "ThirdEbb$Checking" "ThirdEbb$Looking" "sort" "I") ∈ lw_all := lw_g (lw_at lw_m4 199 rfl) rfl
theorem q969 : (Jvm.Cond.laysFinal "ThirdEbb$Checking" "ThirdEbb$Looking" "i" "I") ∈ lw_all := lw_g (lw_at lw_m4 200 rfl) rfl
theorem q970 : (Jvm.Cond.laysFinal "ThirdEbb$Checking" "ThirdEbb$Looking" "n" "I") ∈ lw_all := lw_g (lw_at lw_m4 201 rfl) rfl
theorem q971 : (Jvm.Cond.laysFinal "ThirdEbb$Checking" "ThirdEbb$Looking" "this$0" "LThirdEbb;") ∈ lw_all := lw_g (lw_at lw_m4 202 rfl) rfl
theorem q972 : (Jvm.Cond.laysFinal "ThirdEbb$Checking" "ThirdEbb$Act" "this$0" "LThirdEbb;") ∈ lw_all := lw_g (lw_at lw_m4 203 rfl) rfl
theorem q973 : (Jvm.Cond.superclass "ThirdEbb$Checking" "ThirdEbb$Looking") ∈ lw_all := lw_g (lw_at lw_m4 204 rfl) rfl
theorem q1515 : (Jvm.Cond.castable "ThirdEbb$Checking" "java/lang/Object") ∈ lw_tbl := lw_at lw_m7 26 rfl
theorem in_X9 : ∀ w ∈ wsX90, w ∈ lw_all := lw_in wsX90 [967, 968, 969, 970, 971, 972, 963, 965] (by decide +kernel) (by decide +kernel)

theorem q49 : (Jvm.Cond.initialized "ThirdEbbLaw") ∈ lw_all := lw_g (lw_at lw_m1 0 rfl) rfl
set_option maxRecDepth 100000
theorem q83 : (Jvm.Cond.classLink "ThirdEbbLaw" (7 : Nat) "ThirdEbb") ∈ lw_all := lw_g (lw_at lw_m1 34 rfl) rfl
theorem q85 : (Jvm.Cond.methodLink "ThirdEbbLaw" (9 : Nat) ({ cls := "ThirdEbb", name := "<init>", desc := "()V" } : Jvm.MethodName)) ∈ lw_all := lw_g (lw_at lw_m1 36 rfl) rfl
theorem q167 : (Jvm.Cond.methodLink "ThirdEbbLaw" (18 : Nat) ({ cls := "ThirdEbb", name := "ofMoon", desc := "(II)I" } : Jvm.MethodName)) ∈ lw_all := lw_g (lw_at lw_m1 118 rfl) rfl
theorem q208 : (Jvm.Cond.methodLink "ThirdEbbLaw" (23 : Nat) ({ cls := "ThirdEbb", name := "phase", desc := "(II)I" } : Jvm.MethodName)) ∈ lw_all := lw_g (lw_at lw_m1 159 rfl) rfl
theorem q220 : (Jvm.Cond.methodLink "ThirdEbbLaw" (27 : Nat) ({ cls := "ThirdEbb", name := "level", desc := "(I)I" } : Jvm.MethodName)) ∈ lw_all := lw_g (lw_at lw_m1 171 rfl) rfl
theorem q236 : (Jvm.Cond.methodLink "ThirdEbbLaw" (32 : Nat) ({ cls := "ThirdEbb", name := "again", desc := "()I" } : Jvm.MethodName)) ∈ lw_all := lw_g (lw_at lw_m1 187 rfl) rfl
theorem q247 : (Jvm.Cond.methodLink "ThirdEbbLaw" (37 : Nat) ({ cls := "ThirdEbb", name := "road", desc := "(IIIII)I" } : Jvm.MethodName)) ∈ lw_all := lw_g (lw_at lw_m1 198 rfl) rfl
theorem q399 : (Jvm.Cond.methodLink "ThirdEbbLaw" (42 : Nat) ({ cls := "ThirdEbb", name := "ofRoad", desc := "(II)I" } : Jvm.MethodName)) ∈ lw_all := lw_g (lw_at lw_m2 110 rfl) rfl
theorem q425 : (Jvm.Cond.methodLink "ThirdEbbLaw" (46 : Nat) ({ cls := "ThirdEbb", name := "mend", desc := "(I)I" } : Jvm.MethodName)) ∈ lw_all := lw_g (lw_at lw_m2 136 rfl) rfl
theorem q430 : (Jvm.Cond.methodLink "ThirdEbbLaw" (50 : Nat) ({ cls := "ThirdEbb", name := "height", desc := "(II)I" } : Jvm.MethodName)) ∈ lw_all := lw_g (lw_at lw_m2 141 rfl) rfl
theorem q448 : (Jvm.Cond.methodLink "ThirdEbbLaw" (54 : Nat) ({ cls := "ThirdEbb", name := "dry", desc := "(II)I" } : Jvm.MethodName)) ∈ lw_all := lw_g (lw_at lw_m2 159 rfl) rfl
theorem q456 : (Jvm.Cond.methodLink "ThirdEbbLaw" (58 : Nat) ({ cls := "ThirdEbb", name := "dryHours", desc := "(IIII)J" } : Jvm.MethodName)) ∈ lw_all := lw_g (lw_at lw_m2 167 rfl) rfl
theorem q462 : (Jvm.Cond.methodLink "ThirdEbbLaw" (63 : Nat) ({ cls := "ThirdEbb", name := "next", desc := "(IIZ)I" } : Jvm.MethodName)) ∈ lw_all := lw_g (lw_at lw_m2 173 rfl) rfl
theorem q481 : (Jvm.Cond.methodLink "ThirdEbbLaw" (68 : Nat) ({ cls := "ThirdEbb", name := "soonest", desc := "(IIIZ)I" } : Jvm.MethodName)) ∈ lw_all := lw_g (lw_at lw_m2 192 rfl) rfl
theorem q514 : (Jvm.Cond.methodLink "ThirdEbbLaw" (73 : Nat) ({ cls := "ThirdEbb", name := "way", desc := "(IIIZI)I" } : Jvm.MethodName)) ∈ lw_all := lw_g (lw_at lw_m2 225 rfl) rfl
theorem q522 : (Jvm.Cond.methodLink "ThirdEbbLaw" (78 : Nat) ({ cls := "ThirdEbb", name := "latest", desc := "(IIIZ)I" } : Jvm.MethodName)) ∈ lw_all := lw_g (lw_at lw_m2 233 rfl) rfl
theorem q526 : (Jvm.Cond.methodLink "ThirdEbbLaw" (82 : Nat) ({ cls := "ThirdEbb", name := "round", desc := "(III)I" } : Jvm.MethodName)) ∈ lw_all := lw_g (lw_at lw_m2 237 rfl) rfl
theorem q536 : (Jvm.Cond.methodLink "ThirdEbbLaw" (87 : Nat) ({ cls := "ThirdEbb", name := "meeting", desc := "(III)I" } : Jvm.MethodName)) ∈ lw_all := lw_g (lw_at lw_m3 7 rfl) rfl
theorem q541 : (Jvm.Cond.methodLink "ThirdEbbLaw" (91 : Nat) ({ cls := "ThirdEbb", name := "saves", desc := "(IIII)I" } : Jvm.MethodName)) ∈ lw_all := lw_g (lw_at lw_m3 12 rfl) rfl
theorem q545 : (Jvm.Cond.methodLink "ThirdEbbLaw" (103 : Nat) ({ cls := "ThirdEbb", name := "sheet", desc := "(III)I" } : Jvm.MethodName)) ∈ lw_all := lw_g (lw_at lw_m3 16 rfl) rfl
theorem q662 : (Jvm.Cond.methodLink "ThirdEbbLaw" (107 : Nat) ({ cls := "ThirdEbb", name := "lose", desc := "(I)I" } : Jvm.MethodName)) ∈ lw_all := lw_g (lw_at lw_m3 133 rfl) rfl
theorem q666 : (Jvm.Cond.methodLink "ThirdEbbLaw" (111 : Nat) ({ cls := "ThirdEbb", name := "put", desc := "(III)I" } : Jvm.MethodName)) ∈ lw_all := lw_g (lw_at lw_m3 137 rfl) rfl
theorem q720 : (Jvm.Cond.methodLink "ThirdEbbLaw" (115 : Nat) ({ cls := "ThirdEbb", name := "cell", desc := "(III)J" } : Jvm.MethodName)) ∈ lw_all := lw_g (lw_at lw_m3 191 rfl) rfl
theorem q749 : (Jvm.Cond.methodLink "ThirdEbbLaw" (13 : Nat) ({ cls := "ThirdEbb", name := "sea", desc := "(IIII)I" } : Jvm.MethodName)) ∈ lw_all := lw_g (lw_at lw_m3 220 rfl) rfl
theorem q951 : (Jvm.Cond.methodLink "ThirdEbbLaw" (95 : Nat) ({ cls := "ThirdEbb", name := "table", desc := "(IIIII)I" } : Jvm.MethodName)) ∈ lw_all := lw_g (lw_at lw_m4 182 rfl) rfl
theorem q974 : (Jvm.Cond.methodLink "ThirdEbbLaw" (99 : Nat) ({ cls := "ThirdEbb", name := "book", desc := "(IIII)I" } : Jvm.MethodName)) ∈ lw_all := lw_g (lw_at lw_m4 205 rfl) rfl
theorem q994 : (Jvm.Cond.methodLink "ThirdEbbLaw" (120 : Nat) ({ cls := "ThirdEbb", name := "copy", desc := "(IIIII)I" } : Jvm.MethodName)) ∈ lw_all := lw_g (lw_at lw_m4 225 rfl) rfl
theorem q1027 : (Jvm.Cond.methodLink "ThirdEbbLaw" (124 : Nat) ({ cls := "ThirdEbb", name := "tell", desc := "(I)I" } : Jvm.MethodName)) ∈ lw_all := lw_g (lw_at lw_m5 18 rfl) rfl
theorem q1061 : (Jvm.Cond.methodLink "ThirdEbbLaw" (128 : Nat) ({ cls := "ThirdEbb", name := "stake", desc := "(I)I" } : Jvm.MethodName)) ∈ lw_all := lw_g (lw_at lw_m5 52 rfl) rfl
theorem q1107 : (Jvm.Cond.methodLink "ThirdEbbLaw" (132 : Nat) ({ cls := "ThirdEbb", name := "as", desc := "(II)I" } : Jvm.MethodName)) ∈ lw_all := lw_g (lw_at lw_m5 98 rfl) rfl
theorem q1131 : (Jvm.Cond.methodLink "ThirdEbbLaw" (136 : Nat) ({ cls := "ThirdEbb", name := "trace", desc := "()I" } : Jvm.MethodName)) ∈ lw_all := lw_g (lw_at lw_m5 122 rfl) rfl
theorem q1135 : (Jvm.Cond.methodLink "ThirdEbbLaw" (140 : Nat) ({ cls := "ThirdEbb", name := "fault", desc := "()I" } : Jvm.MethodName)) ∈ lw_all := lw_g (lw_at lw_m5 126 rfl) rfl
theorem q1139 : (Jvm.Cond.methodLink "ThirdEbbLaw" (144 : Nat) ({ cls := "ThirdEbb", name := "many", desc := "(I)I" } : Jvm.MethodName)) ∈ lw_all := lw_g (lw_at lw_m5 130 rfl) rfl
theorem q1143 : (Jvm.Cond.classLink "ThirdEbbLaw" (10 : Nat) "ThirdEbbModel") ∈ lw_all := lw_g (lw_at lw_m5 134 rfl) rfl
theorem q1145 : (Jvm.Cond.methodLink "ThirdEbbLaw" (12 : Nat) ({ cls := "ThirdEbbModel", name := "<init>", desc := "()V" } : Jvm.MethodName)) ∈ lw_all := lw_g (lw_at lw_m5 136 rfl) rfl
theorem q1243 : (Jvm.Cond.methodLink "ThirdEbbLaw" (17 : Nat) ({ cls := "ThirdEbbModel", name := "sea", desc := "(IIII)I" } : Jvm.MethodName)) ∈ lw_all := lw_g (lw_at lw_m5 234 rfl) rfl
theorem q1284 : (Jvm.Cond.methodLink "ThirdEbbLaw" (22 : Nat) ({ cls := "ThirdEbbModel", name := "ofMoon", desc := "(II)I" } : Jvm.MethodName)) ∈ lw_all := lw_g (lw_at lw_m6 35 rfl) rfl
theorem q1288 : (Jvm.Cond.methodLink "ThirdEbbLaw" (26 : Nat) ({ cls := "ThirdEbbModel", name := "phase", desc := "(II)I" } : Jvm.MethodName)) ∈ lw_all := lw_g (lw_at lw_m6 39 rfl) rfl
theorem q1295 : (Jvm.Cond.methodLink "ThirdEbbLaw" (31 : Nat) ({ cls := "ThirdEbbModel", name := "level", desc := "(I)I" } : Jvm.MethodName)) ∈ lw_all := lw_g (lw_at lw_m6 46 rfl) rfl
theorem q1307 : (Jvm.Cond.methodLink "ThirdEbbLaw" (36 : Nat) ({ cls := "ThirdEbbModel", name := "again", desc := "()I" } : Jvm.MethodName)) ∈ lw_all := lw_g (lw_at lw_m6 58 rfl) rfl
theorem q1315 : (Jvm.Cond.methodLink "ThirdEbbLaw" (41 : Nat) ({ cls := "ThirdEbbModel", name := "road", desc := "(IIIII)I" } : Jvm.MethodName)) ∈ lw_all := lw_g (lw_at lw_m6 66 rfl) rfl
theorem q1323 : (Jvm.Cond.methodLink "ThirdEbbLaw" (45 : Nat) ({ cls := "ThirdEbbModel", name := "ofRoad", desc := "(II)I" } : Jvm.MethodName)) ∈ lw_all := lw_g (lw_at lw_m6 74 rfl) rfl
theorem q1331 : (Jvm.Cond.methodLink "ThirdEbbLaw" (49 : Nat) ({ cls := "ThirdEbbModel", name := "mend", desc := "(I)I" } : Jvm.MethodName)) ∈ lw_all := lw_g (lw_at lw_m6 82 rfl) rfl
theorem q1335 : (Jvm.Cond.methodLink "ThirdEbbLaw" (53 : Nat) ({ cls := "ThirdEbbModel", name := "height", desc := "(II)I" } : Jvm.MethodName)) ∈ lw_all := lw_g (lw_at lw_m6 86 rfl) rfl
theorem q1343 : (Jvm.Cond.methodLink "ThirdEbbLaw" (57 : Nat) ({ cls := "ThirdEbbModel", name := "dry", desc := "(II)I" } : Jvm.MethodName)) ∈ lw_all := lw_g (lw_at lw_m6 94 rfl) rfl
theorem q1351 : (Jvm.Cond.methodLink "ThirdEbbLaw" (62 : Nat) ({ cls := "ThirdEbbModel", name := "dryHours", desc := "(IIII)J" } : Jvm.MethodName)) ∈ lw_all := lw_g (lw_at lw_m6 102 rfl) rfl
theorem q1359 : (Jvm.Cond.methodLink "ThirdEbbLaw" (67 : Nat) ({ cls := "ThirdEbbModel", name := "next", desc := "(IIZ)I" } : Jvm.MethodName)) ∈ lw_all := lw_g (lw_at lw_m6 110 rfl) rfl
theorem q1367 : (Jvm.Cond.methodLink "ThirdEbbLaw" (72 : Nat) ({ cls := "ThirdEbbModel", name := "soonest", desc := "(IIIZ)I" } : Jvm.MethodName)) ∈ lw_all := lw_g (lw_at lw_m6 118 rfl) rfl
theorem q1386 : (Jvm.Cond.methodLink "ThirdEbbLaw" (77 : Nat) ({ cls := "ThirdEbbModel", name := "way", desc := "(IIIZI)I" } : Jvm.MethodName)) ∈ lw_all := lw_g (lw_at lw_m6 137 rfl) rfl
theorem q1398 : (Jvm.Cond.methodLink "ThirdEbbLaw" (81 : Nat) ({ cls := "ThirdEbbModel", name := "latest", desc := "(IIIZ)I" } : Jvm.MethodName)) ∈ lw_all := lw_g (lw_at lw_m6 149 rfl) rfl
theorem q1402 : (Jvm.Cond.methodLink "ThirdEbbLaw" (86 : Nat) ({ cls := "ThirdEbbModel", name := "round", desc := "(III)I" } : Jvm.MethodName)) ∈ lw_all := lw_g (lw_at lw_m6 153 rfl) rfl
theorem q1418 : (Jvm.Cond.methodLink "ThirdEbbLaw" (90 : Nat) ({ cls := "ThirdEbbModel", name := "meeting", desc := "(III)I" } : Jvm.MethodName)) ∈ lw_all := lw_g (lw_at lw_m6 169 rfl) rfl
theorem q1422 : (Jvm.Cond.methodLink "ThirdEbbLaw" (94 : Nat) ({ cls := "ThirdEbbModel", name := "saves", desc := "(IIII)I" } : Jvm.MethodName)) ∈ lw_all := lw_g (lw_at lw_m6 173 rfl) rfl
theorem q1426 : (Jvm.Cond.methodLink "ThirdEbbLaw" (98 : Nat) ({ cls := "ThirdEbbModel", name := "table", desc := "(IIIII)I" } : Jvm.MethodName)) ∈ lw_all := lw_g (lw_at lw_m6 177 rfl) rfl
theorem q1430 : (Jvm.Cond.methodLink "ThirdEbbLaw" (102 : Nat) ({ cls := "ThirdEbbModel", name := "book", desc := "(IIII)I" } : Jvm.MethodName)) ∈ lw_all := lw_g (lw_at lw_m6 181 rfl) rfl
theorem q1437 : (Jvm.Cond.methodLink "ThirdEbbLaw" (106 : Nat) ({ cls := "ThirdEbbModel", name := "sheet", desc := "(III)I" } : Jvm.MethodName)) ∈ lw_all := lw_g (lw_at lw_m6 188 rfl) rfl
theorem q1441 : (Jvm.Cond.methodLink "ThirdEbbLaw" (110 : Nat) ({ cls := "ThirdEbbModel", name := "lose", desc := "(I)I" } : Jvm.MethodName)) ∈ lw_all := lw_g (lw_at lw_m6 192 rfl) rfl
theorem q1445 : (Jvm.Cond.methodLink "ThirdEbbLaw" (114 : Nat) ({ cls := "ThirdEbbModel", name := "put", desc := "(III)I" } : Jvm.MethodName)) ∈ lw_all := lw_g (lw_at lw_m6 196 rfl) rfl
theorem q1449 : (Jvm.Cond.methodLink "ThirdEbbLaw" (119 : Nat) ({ cls := "ThirdEbbModel", name := "cell", desc := "(III)J" } : Jvm.MethodName)) ∈ lw_all := lw_g (lw_at lw_m6 200 rfl) rfl
theorem q1457 : (Jvm.Cond.methodLink "ThirdEbbLaw" (123 : Nat) ({ cls := "ThirdEbbModel", name := "copy", desc := "(IIIII)I" } : Jvm.MethodName)) ∈ lw_all := lw_g (lw_at lw_m6 208 rfl) rfl
theorem q1461 : (Jvm.Cond.methodLink "ThirdEbbLaw" (127 : Nat) ({ cls := "ThirdEbbModel", name := "tell", desc := "(I)I" } : Jvm.MethodName)) ∈ lw_all := lw_g (lw_at lw_m6 212 rfl) rfl
theorem q1469 : (Jvm.Cond.methodLink "ThirdEbbLaw" (131 : Nat) ({ cls := "ThirdEbbModel", name := "stake", desc := "(I)I" } : Jvm.MethodName)) ∈ lw_all := lw_g (lw_at lw_m6 220 rfl) rfl
theorem q1473 : (Jvm.Cond.methodLink "ThirdEbbLaw" (135 : Nat) ({ cls := "ThirdEbbModel", name := "as", desc := "(II)I" } : Jvm.MethodName)) ∈ lw_all := lw_g (lw_at lw_m6 224 rfl) rfl
theorem q1477 : (Jvm.Cond.methodLink "ThirdEbbLaw" (139 : Nat) ({ cls := "ThirdEbbModel", name := "trace", desc := "()I" } : Jvm.MethodName)) ∈ lw_all := lw_g (lw_at lw_m6 228 rfl) rfl
theorem q1481 : (Jvm.Cond.methodLink "ThirdEbbLaw" (143 : Nat) ({ cls := "ThirdEbbModel", name := "fault", desc := "()I" } : Jvm.MethodName)) ∈ lw_all := lw_g (lw_at lw_m6 232 rfl) rfl
theorem q1485 : (Jvm.Cond.methodLink "ThirdEbbLaw" (147 : Nat) ({ cls := "ThirdEbbModel", name := "many", desc := "(I)I" } : Jvm.MethodName)) ∈ lw_all := lw_g (lw_at lw_m6 236 rfl) rfl

theorem q1528 : (Jvm.Cond.castable "[B" "java/lang/Object") ∈ lw_tbl := lw_at lw_m7 39 rfl
set_option maxRecDepth 100000

theorem q1526 : (Jvm.Cond.castable "[I" "java/lang/Object") ∈ lw_tbl := lw_at lw_m7 37 rfl
set_option maxRecDepth 100000

theorem q1525 : (Jvm.Cond.castable "[LThirdEbb$Sheet;" "java/lang/Object") ∈ lw_tbl := lw_at lw_m7 36 rfl
set_option maxRecDepth 100000

theorem q1521 : (Jvm.Cond.sameMethod "[Ljava/lang/Object;" "java/lang/Object" "getClass" "()Ljava/lang/Class;") ∈ lw_all := lw_g (lw_at lw_m7 32 rfl) rfl
set_option maxRecDepth 100000
theorem q1522 : (Jvm.Cond.selects "[Ljava/lang/Object;" ({ cls := "java/lang/Object", name := "getClass", desc := "()Ljava/lang/Class;" } : Jvm.MethodName) ({ cls := "java/lang/Object", name := "getClass", desc := "()Ljava/lang/Class;" } : Jvm.MethodName)) ∈ lw_all := lw_g (lw_at lw_m7 33 rfl) rfl
theorem q1527 : (Jvm.Cond.castable "[Ljava/lang/Object;" "java/lang/Object") ∈ lw_tbl := lw_at lw_m7 38 rfl

theorem q1529 : (Jvm.Cond.castable "[S" "java/lang/Object") ∈ lw_tbl := lw_at lw_m7 40 rfl
set_option maxRecDepth 100000

theorem q1524 : (Jvm.Cond.castable "[[I" "java/lang/Object") ∈ lw_tbl := lw_at lw_m7 35 rfl
set_option maxRecDepth 100000

theorem q74 : (Jvm.Cond.initialized "java/lang/System") ∈ lw_all := lw_g (lw_at lw_m1 25 rfl) rfl
set_option maxRecDepth 100000
theorem q395 : (Jvm.Cond.static ({ cls := "java/lang/System", name := "arraycopy", desc := "(Ljava/lang/Object;ILjava/lang/Object;II)V" } : Jvm.MethodName)) ∈ lw_all := lw_g (lw_at lw_m2 106 rfl) rfl
theorem q396 : (Jvm.Cond.native ({ cls := "java/lang/System", name := "arraycopy", desc := "(Ljava/lang/Object;ILjava/lang/Object;II)V" } : Jvm.MethodName)) ∈ lw_all := lw_g (lw_at lw_m2 107 rfl) rfl

theorem q929 : (Jvm.Cond.interfaceMethod "java/util/Collection" "java/util/Collection" "toArray" "()[Ljava/lang/Object;") ∈ lw_tbl := lw_at lw_m4 160 rfl
set_option maxRecDepth 100000
theorem q930 : (Jvm.Cond.declares ({ cls := "java/util/Collection", name := "toArray", desc := "()[Ljava/lang/Object;" } : Jvm.MethodName)) ∈ lw_tbl := lw_at lw_m4 161 rfl

theorem q177 : (Jvm.Cond.interfaceMethod "java/util/List" "java/util/List" "size" "()I") ∈ lw_tbl := lw_at lw_m1 128 rfl
set_option maxRecDepth 100000
theorem q178 : (Jvm.Cond.declares ({ cls := "java/util/List", name := "size", desc := "()I" } : Jvm.MethodName)) ∈ lw_tbl := lw_at lw_m1 129 rfl
theorem q190 : (Jvm.Cond.interfaceMethod "java/util/List" "java/util/List" "get" "(I)Ljava/lang/Object;") ∈ lw_tbl := lw_at lw_m1 141 rfl
theorem q191 : (Jvm.Cond.declares ({ cls := "java/util/List", name := "get", desc := "(I)Ljava/lang/Object;" } : Jvm.MethodName)) ∈ lw_tbl := lw_at lw_m1 142 rfl
theorem q332 : (Jvm.Cond.interfaceMethod "java/util/List" "java/util/List" "add" "(Ljava/lang/Object;)Z") ∈ lw_tbl := lw_at lw_m2 43 rfl
theorem q333 : (Jvm.Cond.declares ({ cls := "java/util/List", name := "add", desc := "(Ljava/lang/Object;)Z" } : Jvm.MethodName)) ∈ lw_tbl := lw_at lw_m2 44 rfl
theorem q881 : (Jvm.Cond.interfaceMethod "java/util/List" "java/util/List" "isEmpty" "()Z") ∈ lw_tbl := lw_at lw_m4 112 rfl
theorem q882 : (Jvm.Cond.declares ({ cls := "java/util/List", name := "isEmpty", desc := "()Z" } : Jvm.MethodName)) ∈ lw_tbl := lw_at lw_m4 113 rfl
theorem q911 : (Jvm.Cond.interfaceMethod "java/util/List" "java/util/List" "clear" "()V") ∈ lw_tbl := lw_at lw_m4 142 rfl
theorem q912 : (Jvm.Cond.declares ({ cls := "java/util/List", name := "clear", desc := "()V" } : Jvm.MethodName)) ∈ lw_tbl := lw_at lw_m4 143 rfl
theorem q920 : (Jvm.Cond.interfaceMethod "java/util/List" "java/util/List" "addAll" "(Ljava/util/Collection;)Z") ∈ lw_tbl := lw_at lw_m4 151 rfl
theorem q921 : (Jvm.Cond.declares ({ cls := "java/util/List", name := "addAll", desc := "(Ljava/util/Collection;)Z" } : Jvm.MethodName)) ∈ lw_tbl := lw_at lw_m4 152 rfl

theorem q118 : (Jvm.Cond.arrayOver (Jvm.ClassFile.FieldType.array Jvm.ClassFile.FieldType.int)) ∈ lw_tbl := lw_at lw_m1 69 rfl
set_option maxRecDepth 100000
theorem q120 : (Jvm.Cond.arrayOver (Jvm.ClassFile.FieldType.object "ThirdEbb$Sheet")) ∈ lw_tbl := lw_at lw_m1 71 rfl
theorem q166 : (Jvm.Cond.arrayClass Jvm.ClassFile.FieldType.int) ∈ lw_all := lw_g (lw_at lw_m1 117 rfl) rfl
theorem q391 : (Jvm.Cond.arrayOver (Jvm.ClassFile.FieldType.object "java/lang/Object")) ∈ lw_tbl := lw_at lw_m2 102 rfl
theorem q631 : (Jvm.Cond.arrayClass Jvm.ClassFile.FieldType.byte) ∈ lw_all := lw_g (lw_at lw_m3 102 rfl) rfl
theorem q657 : (Jvm.Cond.arrayClass Jvm.ClassFile.FieldType.short) ∈ lw_all := lw_g (lw_at lw_m3 128 rfl) rfl
