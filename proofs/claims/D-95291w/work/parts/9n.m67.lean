/-! System.arraycopy refuses: the rows; copy -/
set_option maxRecDepth 100000
theorem nar_fit {l : Nat} {v : Int32} (hl : l ≤ 2) (h : nar l v = v) : fits (laT (ln l)) (.int v) = true := by
  match l, hl with
  | 0, _ =>
    have e : v.toInt8.toInt32 = v := h
    show (decide (-128 ≤ v) && decide (v ≤ 127)) = true
    rw [← e]
    have h1 := Int8.le_toInt v.toInt8
    have h2 := Int8.toInt_lt v.toInt8
    rw [Bool.and_eq_true, decide_eq_true_eq, decide_eq_true_eq, Int32.le_iff_toInt_le, Int32.le_iff_toInt_le, Int8.toInt_toInt32]
    have e1 : (-128 : Int32).toInt = -128 := by decide
    have e2 : (127 : Int32).toInt = 127 := by decide
    rw [e1, e2]
    omega
  | 1, _ =>
    have e : v.toInt16.toInt32 = v := h
    show (decide (-32768 ≤ v) && decide (v ≤ 32767)) = true
    rw [← e]
    have h1 := Int16.le_toInt v.toInt16
    have h2 := Int16.toInt_lt v.toInt16
    rw [Bool.and_eq_true, decide_eq_true_eq, decide_eq_true_eq, Int32.le_iff_toInt_le, Int32.le_iff_toInt_le, Int16.toInt_toInt32]
    have e1 : (-32768 : Int32).toInt = -32768 := by decide
    have e2 : (32767 : Int32).toInt = 32767 := by decide
    rw [e1, e2]
    omega
  | 2, _ => rfl
theorem ln_le {l : Nat} : ln l ≤ 2 := by
  unfold ln
  split
  · decide
  · split <;> decide
theorem ln_inj {a b : Nat} (ha : a ≤ 2) (hb : b ≤ 2) (h : a ≠ b) : ln a ≠ ln b := by
  unfold ln
  split <;> split <;> (try split) <;> (try split) <;> omega
theorem XS.row2 {w : WE} {A : Hp} {x : XT} {S : ST} {k : Nat} {q : Sh} {p : Nat × Nat} {f fn gn : Nat → Int32} (h : XS w A x S) (hk : k < 4) (hq : S.2.2.2.2.2 k = Option.some q) (hp : x.2.2.2.2.2 k = Option.some p) (hA : A.1 p.2 = Option.some (eI w (ln q.1) q.2.1 f)) (hf : ∀ i, i < q.2.1 → fn i = gn i) (hd : dyn w p.2) : XS w (hp_up A p.2 (eI w (ln q.1) q.2.1 fn)) x (sH S k (Option.some (q.1, q.2.1, gn))) := by
  have hb : wb w + 21 = mb w := rfl
  have hkp : ∀ z, z ≠ p.2 → Kp A (hp_up A p.2 (eI w (ln q.1) q.2.1 fn)) z := fun z hz e he => (hp_up_n hz).trans he
  obtain ⟨⟨a1, a2, a3⟩, ⟨b1, b2⟩, ⟨c1, c2⟩, d, e, ⟨f1, f2, f3⟩, g⟩ := h
  have hfx : ∀ m, m ≤ 20 → Kp A (hp_up A p.2 (eI w (ln q.1) q.2.1 fn)) (wb w + m) := fun m hm => hkp _ (by omega)
  have hin : ∀ {z : Nat} {o : Nat × List Value}, A.1 z = Option.some (.inr o) → (hp_up A p.2 (eI w (ln q.1) q.2.1 fn)).1 z = Option.some (.inr o) := fun {z o} hz => hkp z (ne_io hz hA) _ hz
  have hls : ∀ {z : Nat} {cap : Nat} {gg : Nat → Option Nat}, A.1 z = Option.some (eR w 5 cap gg) → z ≠ p.2 := fun hz => (ne_ii hA hz).symm
  refine ⟨⟨hfx 0 (by decide) _ a1, fun m hm => hfx m (by rcases hm with h | h <;> omega) _ (a2 m hm), hfx 4 (by decide) _ a3⟩, ⟨b1.keep (hfx 1 (by decide)) ?_, fun i r hr => ⟨(b2 i r hr).1, hin (b2 i r hr).2⟩⟩, ⟨c1.keep (hfx 2 (by decide)) ?_, fun i r hr => ⟨(c2 i r hr).1, hin (c2 i r hr).2⟩⟩, ⟨hfx 20 (by decide) _ d.1, fun i hi => ?_, d.2.2⟩, e, ⟨(hp_up_n (by omega)).trans f1, f2, f3⟩, ?_⟩
  · obtain ⟨_, _, _, _, u, _⟩ := b1
    exact hkp _ (hls u)
  · obtain ⟨_, _, _, _, u, _⟩ := c1
    exact hkp _ (hls u)
  · by_cases e1 : i = k
    · subst e1
      rcases d.2.1 i hi with ⟨h1, -⟩ | ⟨q', p', f', h1, h2, h3, h4, h5, h6, h7, h8, h9⟩
      · rw [hq] at h1
        cases h1
      · rw [hq] at h1
        cases h1
        rw [hp] at h2
        cases h2
        refine Or.inr ⟨(q.1, q.2.1, gn), p, fn, by simp [va_up], hp, h3, h4, h5, h6, hin h7, hp_up_s, fun i hi => ?_⟩
        show fn i = gn i
        exact hf i hi
    · have hs : (sH S k (Option.some (q.1, q.2.1, gn))).2.2.2.2.2 i = S.2.2.2.2.2 i := by simp [va_up, e1]
      rw [hs]
      rcases d.2.1 i hi with h1 | ⟨q', p', f', h1, h2, h3, h4, h5, h6, h7, h8, h9⟩
      · exact Or.inl h1
      · refine Or.inr ⟨q', p', f', h1, h2, h3, h4, h5, h6, hin h7, ?_, h9⟩
        exact (hp_up_n (d.2.2 i k p' p hi hk e1 h2 hp)).trans h8
  · exact ⟨⟨g.1.1, g.1.2⟩, g.2⟩

section ACW
variable {Q : Option Value → Pre} {E : CtlPost} {e : Env} {d : Bool} {acts : List Action} {U : State}
theorem ac_null {va vb : Value} {i j l : Int32} (hv : (va = .null ∧ (vb = .null ∨ ∃ q, vb = .ref q)) ∨ ((∃ q, va = .ref q) ∧ vb = .null)) (hE : ∀ acts', E (.throwNew "java/lang/NullPointerException" none) acts' U) : wp (Jvm.Native.java_lang_System.arraycopy.sem #[va, .int i, vb, .int j, .int l]) Q E e d acts U := by
  rcases hv with ⟨rfl, rfl | ⟨q, rfl⟩⟩ | ⟨⟨q, rfl⟩, rfl⟩ <;>
    (change wp (Jvm.mark "nat.java_lang_System.arraycopy/null" >>= fun _ => Jvm.throwNew "java/lang/NullPointerException") Q E e d acts U
     simp only [wp_bind', W.mark, W.throwNew]
     exact hE _)
theorem ac_txt {r : String} (h : r.toList.length ≤ 74) : (("arraycopy: " ++ r) == notModelled) = false ∧ (stringBytes (stringToUtf16 ("arraycopy: " ++ r))).size ≤ 340 := by
  constructor
  · rw [beq_eq_false_iff_ne]
    intro h1
    have h2 := congrArg String.toList h1
    rw [String.toList_append] at h2
    have h3 : "arraycopy: ".toList = 'a' :: "rraycopy: ".toList := by decide
    have h4 : notModelled.toList = '\u0000' :: " a message that is not modelled".toList := by decide
    rw [h3, h4] at h2
    simp at h2
  · have b1 := stringBytes_size_le (stringToUtf16 ("arraycopy: " ++ r))
    have b2 := utf16_size_le ("arraycopy: " ++ r)
    have b3 : ("arraycopy: " ++ r).toList.length = 11 + r.toList.length := by
      rw [String.toList_append, List.length_append]
      rfl
    omega
theorem ac_types {t u : Nat} (ht : t ≤ 2) (hu : u ≤ 2) (hne : t ≠ u) : ∃ r : String, r.toList.length ≤ 74 ∧ ∀ {Q : Option Value → Pre} {E : CtlPost} {e : Env} {d : Bool} {acts : List Action} {U : State} {a b : Nat} {i j l : Int32} {cs cd : Cell} {ks kd : Class} {sC dC : ClassId}, U.heap[a]? = some cs → U.heap[b]? = some cd → (∀ k, cs.vm ≠ .statics k) → (∀ k, cd.vm ≠ .statics k) → U.vm.classes[cs.cls]? = some ks → U.vm.classes[cd.cls]? = some kd → ks.kind = .array sC (laT t) → kd.kind = .array dC (laT u) → (∀ acts', E (.throwNew "java/lang/ArrayStoreException" (some ("arraycopy: " ++ r))) acts' U) → wp (Jvm.Native.java_lang_System.arraycopy.sem #[.ref a, .int i, .ref b, .int j, .int l]) Q E e d acts U := by
  have key : ∀ (A B : FieldType) (r : String), ((refKind A != refKind B) || (!refKind A && A != B)) = true → toString "arraycopy: type mismatch: can not copy " ++ toString (Jvm.Native.java_lang_System.arraycopy.kindName A) ++ toString "[] into " ++ toString (Jvm.Native.java_lang_System.arraycopy.kindName B) ++ toString "[]" = "arraycopy: " ++ r → ∀ {Q : Option Value → Pre} {E : CtlPost} {e : Env} {d : Bool} {acts : List Action} {U : State} {a b : Nat} {i j l : Int32} {cs cd : Cell} {ks kd : Class} {sC dC : ClassId}, U.heap[a]? = some cs → U.heap[b]? = some cd → (∀ k, cs.vm ≠ .statics k) → (∀ k, cd.vm ≠ .statics k) → U.vm.classes[cs.cls]? = some ks → U.vm.classes[cd.cls]? = some kd → ks.kind = .array sC A → kd.kind = .array dC B → (∀ acts', E (.throwNew "java/lang/ArrayStoreException" (some ("arraycopy: " ++ r))) acts' U) → wp (Jvm.Native.java_lang_System.arraycopy.sem #[.ref a, .int i, .ref b, .int j, .int l]) Q E e d acts U := by
    intro A B r hty htx Q E e d acts U a b i j l cs cd ks kd sC dC hs hd hso hdo hks hkd hsk hdk hE
    rw [Jvm.Native.java_lang_System.arraycopy.sem_refs]
    unfold Jvm.Native.java_lang_System.arraycopy.behind
    simp only [wp_bind', W.classOf, W.theClass, hs, hd, hks, hkd, Option.some.injEq, exists_eq_left', hsk, hdk]
    refine ⟨hso, hdo, ?_⟩
    unfold refKind at hty
    simp only [hty, if_true]
    rw [htx]
    simp only [wp_bind', W.mark, W.throwNew]
    exact hE _
  match t, u, ht, hu, hne with
  | 0, 1, _, _, _ => exact ⟨"type mismatch: can not copy int[] into byte[]", by decide, key _ _ _ rfl (by rfl)⟩
  | 0, 2, _, _, _ => exact ⟨"type mismatch: can not copy int[] into short[]", by decide, key _ _ _ rfl (by rfl)⟩
  | 1, 0, _, _, _ => exact ⟨"type mismatch: can not copy byte[] into int[]", by decide, key _ _ _ rfl (by rfl)⟩
  | 1, 2, _, _, _ => exact ⟨"type mismatch: can not copy byte[] into short[]", by decide, key _ _ _ rfl (by rfl)⟩
  | 2, 0, _, _, _ => exact ⟨"type mismatch: can not copy short[] into int[]", by decide, key _ _ _ rfl (by rfl)⟩
  | 2, 1, _, _, _ => exact ⟨"type mismatch: can not copy short[] into byte[]", by decide, key _ _ _ rfl (by rfl)⟩
  | 0, 0, _, _, h => exact absurd rfl h
  | 1, 1, _, _, h => exact absurd rfl h
  | 2, 2, _, _, h => exact absurd rfl h
theorem int_print {z : Int} (h1 : -(2 ^ 32) ≤ z) (h2 : z ≤ 2 ^ 32) : (toString z).toList.length ≤ 11 := by
  show (Int.repr z).toList.length ≤ 11
  cases z with
  | ofNat m =>
    have h2 : (m : Int) ≤ 2 ^ 32 := h2
    have := nat_print (n := m) (by omega)
    show (toString m).toList.length ≤ 11
    omega
  | negSucc m =>
    have h2' : -(2 : Int) ^ 32 ≤ -((m : Int) + 1) := by simpa [Int.negSucc_eq] using h1
    have := nat_print (n := m.succ) (by omega)
    show ("-" ++ toString m.succ).toList.length ≤ 11
    rw [String.toList_append, List.length_append]
    have h0 : "-".toList.length = 1 := by decide
    omega
theorem kn_len {t : Nat} : (Jvm.Native.java_lang_System.arraycopy.kindName (laT t)).toList.length ≤ 5 := by
  match t with
  | 0 => decide
  | 1 => decide
  | _ + 2 => show "short".toList.length ≤ 5; decide
theorem ac_bounds {t N N1 : Nat} {i j l : Int32} (hN : N ≤ 60) (hN1 : N1 ≤ 60) (hbad : ¬ cpOk N N1 i j l = true) : ∃ r : String, r.toList.length ≤ 74 ∧ ∀ {Q : Option Value → Pre} {E : CtlPost} {e : Env} {d : Bool} {acts : List Action} {U : State} {a b : Nat} {cs cd : Cell} {ks kd : Class} {sC dC : ClassId}, U.heap[a]? = some cs → U.heap[b]? = some cd → (∀ k, cs.vm ≠ .statics k) → (∀ k, cd.vm ≠ .statics k) → U.vm.classes[cs.cls]? = some ks → U.vm.classes[cd.cls]? = some kd → ks.kind = .array sC (laT t) → kd.kind = .array dC (laT t) → cs.slots.size = N → cd.slots.size = N1 → (∀ acts', E (.throwNew "java/lang/ArrayIndexOutOfBoundsException" (some ("arraycopy: " ++ r))) acts' U) → wp (Jvm.Native.java_lang_System.arraycopy.sem #[.ref a, .int i, .ref b, .int j, .int l]) Q E e d acts U := by
  have z0 : (0 : Int32).toInt = 0 := by decide
  have i1 := Int32.toInt_lt i
  have i2 := Int32.le_toInt i
  have j1 := Int32.toInt_lt j
  have j2 := Int32.le_toInt j
  have l1 := Int32.toInt_lt l
  have l2 := Int32.le_toInt l
  have hk := kn_len (t := t)
  have hA : (toString (Jvm.Native.java_lang_System.arraycopy.kindName (laT t)) ++ toString "[" ++ toString N ++ toString "]").toList.length ≤ 17 := by
    show (toString (Jvm.Native.java_lang_System.arraycopy.kindName (laT t)) ++ toString "[" ++ toString N ++ toString "]").toList.length ≤ 17
    simp only [String.toList_append, List.length_append]
    have := nat_print (n := N) (by omega)
    have a1 : (toString "[").toList.length = 1 := by decide
    have a2 : (toString "]").toList.length = 1 := by decide
    have a3 : (toString (Jvm.Native.java_lang_System.arraycopy.kindName (laT t))).toList.length ≤ 5 := hk
    omega
  have hB : (toString (Jvm.Native.java_lang_System.arraycopy.kindName (laT t)) ++ toString "[" ++ toString N1 ++ toString "]").toList.length ≤ 17 := by
    show (toString (Jvm.Native.java_lang_System.arraycopy.kindName (laT t)) ++ toString "[" ++ toString N1 ++ toString "]").toList.length ≤ 17
    simp only [String.toList_append, List.length_append]
    have := nat_print (n := N1) (by omega)
    have a1 : (toString "[").toList.length = 1 := by decide
    have a2 : (toString "]").toList.length = 1 := by decide
    have a3 : (toString (Jvm.Native.java_lang_System.arraycopy.kindName (laT t))).toList.length ≤ 5 := hk
    omega
  have hty : ((refKind (laT t) != refKind (laT t)) || (!refKind (laT t) && laT t != laT t)) = false := by simp
  unfold refKind at hty
  have len3 : ∀ (a b c d : String) (x y z w : Nat), a.toList.length ≤ x → b.toList.length ≤ y → c.toList.length ≤ z → d.toList.length ≤ w → (a ++ b ++ c ++ d).toList.length ≤ x + y + z + w := by
    intro a b c d x y z w h1 h2 h3 h4
    simp only [String.toList_append, List.length_append]
    omega
  have oob : (toString " out of bounds for ").toList.length ≤ 19 := by decide
  by_cases h1 : i < 0
  · refine ⟨toString "source index " ++ toString i ++ toString " out of bounds for " ++ toString (toString (Jvm.Native.java_lang_System.arraycopy.kindName (laT t)) ++ toString "[" ++ toString N ++ toString "]"), Nat.le_trans (len3 (toString "source index ") (toString i) (toString " out of bounds for ") (toString (toString (Jvm.Native.java_lang_System.arraycopy.kindName (laT t)) ++ toString "[" ++ toString N ++ toString "]")) 13 11 19 17 (by decide) (int32_print i) oob hA) (by decide), ?_⟩
    intro Q E e d acts U a b cs cd ks kd sC dC hs hd hso hdo hks hkd hsk hdk e1 e2 hE
    rw [Jvm.Native.java_lang_System.arraycopy.sem_refs]
    unfold Jvm.Native.java_lang_System.arraycopy.behind
    simp only [wp_bind', W.classOf, W.theClass, hs, hd, hks, hkd, Option.some.injEq, exists_eq_left', hsk, hdk]
    refine ⟨hso, hdo, ?_⟩
    simp only [hty, Bool.false_eq_true, if_false]
    simp only [wp_bind', W.sizeOf, hs, hd, Option.some.injEq, exists_eq_left', e1, e2, h1, if_true]
    simp only [wp_bind', W.mark, W.throwNew]
    exact hE _
  by_cases h2 : j < 0
  · refine ⟨toString "destination index " ++ toString j ++ toString " out of bounds for " ++ toString (toString (Jvm.Native.java_lang_System.arraycopy.kindName (laT t)) ++ toString "[" ++ toString N1 ++ toString "]"), Nat.le_trans (len3 (toString "destination index ") (toString j) (toString " out of bounds for ") (toString (toString (Jvm.Native.java_lang_System.arraycopy.kindName (laT t)) ++ toString "[" ++ toString N1 ++ toString "]")) 18 11 19 17 (by decide) (int32_print j) oob hB) (by decide), ?_⟩
    intro Q E e d acts U a b cs cd ks kd sC dC hs hd hso hdo hks hkd hsk hdk e1 e2 hE
    rw [Jvm.Native.java_lang_System.arraycopy.sem_refs]
    unfold Jvm.Native.java_lang_System.arraycopy.behind
    simp only [wp_bind', W.classOf, W.theClass, hs, hd, hks, hkd, Option.some.injEq, exists_eq_left', hsk, hdk]
    refine ⟨hso, hdo, ?_⟩
    simp only [hty, Bool.false_eq_true, if_false]
    simp only [wp_bind', W.sizeOf, hs, hd, Option.some.injEq, exists_eq_left', e1, e2, h1, h2, if_true, if_false]
    simp only [wp_bind', W.mark, W.throwNew]
    exact hE _
  by_cases h3 : l < 0
  · refine ⟨toString "length " ++ toString l ++ toString " is negative", by
      have a1 := int32_print l
      have a2 : (toString "length ").toList.length = 7 := by decide
      have a3 : (toString " is negative").toList.length = 12 := by decide
      simp only [String.toList_append, List.length_append]
      omega, ?_⟩
    intro Q E e d acts U a b cs cd ks kd sC dC hs hd hso hdo hks hkd hsk hdk e1 e2 hE
    rw [Jvm.Native.java_lang_System.arraycopy.sem_refs]
    unfold Jvm.Native.java_lang_System.arraycopy.behind
    simp only [wp_bind', W.classOf, W.theClass, hs, hd, hks, hkd, Option.some.injEq, exists_eq_left', hsk, hdk]
    refine ⟨hso, hdo, ?_⟩
    simp only [hty, Bool.false_eq_true, if_false]
    simp only [wp_bind', W.sizeOf, hs, hd, Option.some.injEq, exists_eq_left', e1, e2, h1, h2, h3, if_true, if_false]
    simp only [wp_bind', W.mark, W.throwNew]
    exact hE _
  by_cases h4 : i.toInt + l.toInt > (N : Int)
  · refine ⟨toString "last source index " ++ toString (i.toInt + l.toInt) ++ toString " out of bounds for " ++ toString (toString (Jvm.Native.java_lang_System.arraycopy.kindName (laT t)) ++ toString "[" ++ toString N ++ toString "]"), Nat.le_trans (len3 (toString "last source index ") (toString (i.toInt + l.toInt)) (toString " out of bounds for ") (toString (toString (Jvm.Native.java_lang_System.arraycopy.kindName (laT t)) ++ toString "[" ++ toString N ++ toString "]")) 18 11 19 17 (by decide) (int_print (by omega) (by omega)) oob hA) (by decide), ?_⟩
    intro Q E e d acts U a b cs cd ks kd sC dC hs hd hso hdo hks hkd hsk hdk e1 e2 hE
    rw [Jvm.Native.java_lang_System.arraycopy.sem_refs]
    unfold Jvm.Native.java_lang_System.arraycopy.behind
    simp only [wp_bind', W.classOf, W.theClass, hs, hd, hks, hkd, Option.some.injEq, exists_eq_left', hsk, hdk]
    refine ⟨hso, hdo, ?_⟩
    simp only [hty, Bool.false_eq_true, if_false]
    simp only [wp_bind', W.sizeOf, hs, hd, Option.some.injEq, exists_eq_left', e1, e2, h1, h2, h3, h4, if_true, if_false]
    simp only [wp_bind', W.mark, W.throwNew]
    exact hE _
  by_cases h5 : j.toInt + l.toInt > (N1 : Int)
  · refine ⟨toString "last destination index " ++ toString (j.toInt + l.toInt) ++ toString " out of bounds for " ++ toString (toString (Jvm.Native.java_lang_System.arraycopy.kindName (laT t)) ++ toString "[" ++ toString N1 ++ toString "]"), Nat.le_trans (len3 (toString "last destination index ") (toString (j.toInt + l.toInt)) (toString " out of bounds for ") (toString (toString (Jvm.Native.java_lang_System.arraycopy.kindName (laT t)) ++ toString "[" ++ toString N1 ++ toString "]")) 23 11 19 17 (by decide) (int_print (by omega) (by omega)) oob hB) (by decide), ?_⟩
    intro Q E e d acts U a b cs cd ks kd sC dC hs hd hso hdo hks hkd hsk hdk e1 e2 hE
    rw [Jvm.Native.java_lang_System.arraycopy.sem_refs]
    unfold Jvm.Native.java_lang_System.arraycopy.behind
    simp only [wp_bind', W.classOf, W.theClass, hs, hd, hks, hkd, Option.some.injEq, exists_eq_left', hsk, hdk]
    refine ⟨hso, hdo, ?_⟩
    simp only [hty, Bool.false_eq_true, if_false]
    simp only [wp_bind', W.sizeOf, hs, hd, Option.some.injEq, exists_eq_left', e1, e2, h1, h2, h3, h4, h5, if_true, if_false]
    simp only [wp_bind', W.mark, W.throwNew]
    exact hE _
  · refine absurd (cpOk_t.mpr ?_) hbad
    have g1 : ¬ i.toInt < (0 : Int32).toInt := fun z => h1 (i_lt.mpr z)
    have g2 : ¬ j.toInt < (0 : Int32).toInt := fun z => h2 (i_lt.mpr z)
    have g3 : ¬ l.toInt < (0 : Int32).toInt := fun z => h3 (i_lt.mpr z)
    rw [z0] at g1 g2 g3
    omega
end ACW
section ACR
variable {w : WE} {M : MI} {R : Room} {Z : ZT} {k n : Nat} {A : Hp} {pc : Nat} {lo : List (Option Value)} {st : List Value}
def aOk (R : Room) (k n cc ss : Nat) (st : List Value) : Bool := decide (8 < R.frames) && decide ((st.map fun v => v.category).sum + 10240 ≤ R.locals) && decide (k + cc ≤ R.cells) && decide (n + ss ≤ R.slots)
theorem aOk_s {R : Room} {k n cc ss : Nat} {st : List Value} (h : aOk R k n cc ss st = true) : 8 < R.frames ∧ (st.map fun v => v.category).sum + 10240 ≤ R.locals ∧ k + cc ≤ R.cells ∧ n + ss ≤ R.slots := by
  unfold aOk at h
  simp only [Bool.and_eq_true, decide_eq_true_eq] at h
  exact ⟨h.1.1.1, h.1.1.2, h.1.2, h.2⟩
abbrev nullOr (v : Value) : Prop := v = .null ∨ ∃ q, v = .ref q
theorem ac_ops {va vb : Value} {i j l : Int32} (h1 : nullOr va) (h2 : nullOr vb) : operandWords #[va, .int i, vb, .int j, .int l].toList = 5 := by
  rcases h1 with rfl | ⟨q, rfl⟩ <;> rcases h2 with rfl | ⟨p, rfl⟩ <;> rfl
theorem ac_seen {methS : Method} {va vb : Value} {i j l : Int32} (h1 : nullOr va) (h2 : nullOr vb) (hs : methS.isStatic = true) (hp : methS.sig.parameters = [.object "java/lang/Object", .int, .object "java/lang/Object", .int, .int]) : seenByNative methS #[va, .int i, vb, .int j, .int l] = #[va, .int i, vb, .int j, .int l] := by
  rcases h1 with rfl | ⟨q, rfl⟩ <;> rcases h2 with rfl | ⟨p, rfl⟩ <;> simp [seenByNative, hs, hp, narrow]
theorem acw_5 : nativeFrameWords "java/lang/System" "arraycopy" 5 + 11 ≤ 10240 := by decide +kernel
theorem r_acN {va vb : Value} {i j l : Int32} {idx : Nat} (hd : decode M.2.1 pc = .ok (.invokestatic idx, 3)) (hlink : Cond.methodLink M.1.cls idx arraycopyName ∈ lw_all) (hv : (va = .null ∧ (vb = .null ∨ ∃ q, vb = .ref q)) ∨ ((∃ q, va = .ref q) ∧ vb = .null)) (hTR : TR w) (hok : aOk R k n 1 8 st = true) (K : Rt w M R Z (k + 1) (n + 8) (A.1, A.2 + 1) pc lo "java/lang/NullPointerException") : Rn w M R Z k n A pc lo (.int l :: .int j :: vb :: .int i :: va :: st) := by
  obtain ⟨o1, o2, o3, o4⟩ := aOk_s hok
  have n1 : nullOr va := hv.elim (fun h => Or.inl h.1) (fun h => Or.inr h.1)
  have n2 : nullOr vb := hv.elim (fun h => h.2) (fun h => Or.inl h.2)
  intro p e s m args below meth c H locs ls C hR hL hl T hT X
  subst hT
  obtain ⟨r, kS, methS, hnS, hmS, hkS, N⟩ := NativeOf.of_static (C.ts _ q396) (C.ts _ q395) (ps := [.object "java/lang/Object", .int, .object "java/lang/Object", .int, .int]) (ret := none) (by decide +kernel)
  have hinitS : kS.init = .initialized := Jvm.Cond.initialized_spec (findClass_of_methodNamed hnS) hkS (C.ts _ q74)
  have hsz : (F0 m pc ls st).locals.size = c.maxLocals := by rw [C.ml]; exact lo_size hl
  obtain ⟨vm', X', step⟩ := X.invokestatic C.x C.own (C.ts _ hlink) hnS hmS N.static hkS hinitS (by decide) (g := F0 m pc ls (.int l :: .int j :: vb :: .int i :: va :: st)) rfl (argsL := [va, .int i, vb, .int j, .int l]) (rest := st) (by rw [N.sig]; rfl) rfl (by rw [C.b]; exact hd)
  obtain ⟨kS', N'⟩ := N.alike X'.warmed.alike
  obtain ⟨T2, L2, X2, h1, h2, h3, h4⟩ := npe_goN (g := F0 m pc ls st) (nf := { method := r, args := #[va, .int i, vb, .int j, .int l], locked := none }) C.x C.k (hTR e X.admits) (T' := T.setVm vm') hR X' rfl hsz rfl rfl rfl o1 (by show 2 * 0 + (st.map fun v => v.category).sum + 10240 ≤ _; omega) o3 o4
  obtain ⟨t, a1, b1⟩ := K p e s m args below meth c _ _ ls st _ C h2 (loc_app hL h1) hl h3 T2 rfl X2
  refine ⟨t, step t (fun acts => ?_), b1⟩
  refine nat_note (g := F0 m pc ls st) X'.here acts N' (X'.notFull (g := F0 m pc ls st) hsz (vars := nativeFrameWords "java/lang/System" "arraycopy" 5) (by omega) (by have := acw_5; show 2 * 0 + (st.map fun v => v.category).sum + _ ≤ _; omega)) (ac_ops n1 n2) (ac_seen n1 n2 N'.static N'.sig) (fun F E hE => ac_null hv hE) ?_
  rw [X'.tail]
  exact h4 t a1
/-- the refusal with a text -/
theorem r_acM {a b : Nat} {i j l : Int32} {idx : Nat} {X tx : String} {names : List String} (hX : XW X names) (hd : decode M.2.1 pc = .ok (.invokestatic idx, 3)) (hlink : Cond.methodLink M.1.cls idx arraycopyName ∈ lw_all) (htx : tx.toList.length ≤ 74)
    (hw : ∀ (s U : State) (e : Env) (E : CtlPost), KW w s → s.WarmedH U.vm → Rp w A U.heap → (∀ acts', E (.throwNew X (some ("arraycopy: " ++ tx))) acts' U) → wp (Jvm.Native.java_lang_System.arraycopy.sem #[.ref a, .int i, .ref b, .int j, .int l]) (fun _ _ _ _ => False) E e false [] U)
    (hTR : TR w) (hok : aOk R k n 3 350 st = true) (K : Rt w M R Z (k + 3) (n + 350) (A.1, A.2 + 3) pc lo X) : Rn w M R Z k n A pc lo (.int l :: .int j :: .ref b :: .int i :: .ref a :: st) := by
  obtain ⟨o1, o2, o3, o4⟩ := aOk_s hok
  have n1 : nullOr (.ref a) := Or.inr ⟨_, rfl⟩
  have n2 : nullOr (.ref b) := Or.inr ⟨_, rfl⟩
  intro p e s m args below meth c H locs ls C hR hL hl T hT Y
  subst hT
  obtain ⟨r, kS, methS, hnS, hmS, hkS, N⟩ := NativeOf.of_static (C.ts _ q396) (C.ts _ q395) (ps := [.object "java/lang/Object", .int, .object "java/lang/Object", .int, .int]) (ret := none) (by decide +kernel)
  have hinitS : kS.init = .initialized := Jvm.Cond.initialized_spec (findClass_of_methodNamed hnS) hkS (C.ts _ q74)
  have hsz : (F0 m pc ls st).locals.size = c.maxLocals := by rw [C.ml]; exact lo_size hl
  obtain ⟨vm', X', step⟩ := Y.invokestatic C.x C.own (C.ts _ hlink) hnS hmS N.static hkS hinitS (by decide) (g := F0 m pc ls (.int l :: .int j :: .ref b :: .int i :: .ref a :: st)) rfl (argsL := [.ref a, .int i, .ref b, .int j, .int l]) (rest := st) (by rw [N.sig]; rfl) rfl (by rw [C.b]; exact hd)
  obtain ⟨kS', N'⟩ := N.alike X'.warmed.alike
  obtain ⟨T2, L2, X2, h1, h2, h3, h4⟩ := msg_goN (b := 340) (text := "arraycopy: " ++ tx) (g := F0 m pc ls st) (nf := { method := r, args := #[.ref a, .int i, .ref b, .int j, .int l], locked := none }) C.x C.k (hTR e Y.admits) (T' := T.setVm vm') hR X' rfl hsz rfl rfl rfl hX (ac_txt htx).1 (ac_txt htx).2 (by decide) o1 (by show 2 * 0 + (st.map fun v => v.category).sum + 10240 ≤ _; omega) o3 o4
  obtain ⟨t, a1, b1⟩ := K p e s m args below meth c _ _ ls st _ C h2 (loc_app hL h1) hl h3 T2 rfl X2
  refine ⟨t, step t (fun acts => ?_), b1⟩
  refine nat_note (g := F0 m pc ls st) X'.here acts N' (X'.notFull (g := F0 m pc ls st) hsz (vars := nativeFrameWords "java/lang/System" "arraycopy" 5) (by omega) (by have := acw_5; show 2 * 0 + (st.map fun v => v.category).sum + _ ≤ _; omega)) (ac_ops n1 n2) (ac_seen n1 n2 N'.static N'.sig) (fun F E hE => hw s ((T.setVm vm').setFrames F) e E C.k X'.warmed hR hE) ?_
  rw [X'.tail]
  exact h4 t a1
theorem r_acT {a b N N1 t u : Nat} {f g : Nat → Int32} {i j l : Int32} {idx : Nat} (hd : decode M.2.1 pc = .ok (.invokestatic idx, 3)) (hlink : Cond.methodLink M.1.cls idx arraycopyName ∈ lw_all) (ht : t ≤ 2) (hu : u ≤ 2) (hne : t ≠ u) (hA : A.1 a = some (eI w t N f)) (hB : A.1 b = some (eI w u N1 g)) (hTR : TR w) (hok : aOk R k n 3 350 st = true) (K : Rt w M R Z (k + 3) (n + 350) (A.1, A.2 + 3) pc lo "java/lang/ArrayStoreException") : Rn w M R Z k n A pc lo (.int l :: .int j :: .ref b :: .int i :: .ref a :: st) := by
  obtain ⟨tx, h1, h2⟩ := ac_types ht hu hne
  refine r_acM xwAS hd hlink h1 (fun s U e E hK hW hR hE => ?_) hTR hok K
  obtain ⟨-, k0, hk0, cm0, hkk0⟩ := (hK.K.2 t _ (laA ht)).1 N (fun j => .int (f j))
  obtain ⟨-, k1, hk1, cm1, hkk1⟩ := (hK.K.2 u _ (laA hu)).1 N1 (fun j => .int (g j))
  obtain ⟨k2, hk2, e2⟩ := hW.alike.2.2 _ _ hk0
  obtain ⟨k3, hk3, e3⟩ := hW.alike.2.2 _ _ hk1
  exact h2 (hR.at hA) (hR.at hB) (fun _ h => by cases h) (fun _ h => by cases h) hk2 hk3 (by rw [e2]; exact hkk0) (by rw [e3]; exact hkk1) hE
theorem r_acB {a b N N1 t : Nat} {f g : Nat → Int32} {i j l : Int32} {idx : Nat} (hd : decode M.2.1 pc = .ok (.invokestatic idx, 3)) (hlink : Cond.methodLink M.1.cls idx arraycopyName ∈ lw_all) (ht : t ≤ 2) (hN : N ≤ 60) (hN1 : N1 ≤ 60) (hbad : ¬ cpOk N N1 i j l = true) (hA : A.1 a = some (eI w t N f)) (hB : A.1 b = some (eI w t N1 g)) (hTR : TR w) (hok : aOk R k n 3 350 st = true) (K : Rt w M R Z (k + 3) (n + 350) (A.1, A.2 + 3) pc lo "java/lang/ArrayIndexOutOfBoundsException") : Rn w M R Z k n A pc lo (.int l :: .int j :: .ref b :: .int i :: .ref a :: st) := by
  obtain ⟨tx, h1, h2⟩ := ac_bounds (t := t) hN hN1 hbad
  refine r_acM xwAI hd hlink h1 (fun s U e E hK hW hR hE => ?_) hTR hok K
  obtain ⟨-, k0, hk0, cm0, hkk0⟩ := (hK.K.2 t _ (laA ht)).1 N (fun j => .int (f j))
  obtain ⟨-, k1, hk1, cm1, hkk1⟩ := (hK.K.2 t _ (laA ht)).1 N1 (fun j => .int (g j))
  obtain ⟨k2, hk2, e2⟩ := hW.alike.2.2 _ _ hk0
  obtain ⟨k3, hk3, e3⟩ := hW.alike.2.2 _ _ hk1
  exact h2 (hR.at hA) (hR.at hB) (fun _ h => by cases h) (fun _ h => by cases h) hk2 hk3 (by rw [e2]; exact hkk0) (by rw [e3]; exact hkk1) (arrV_size _ _ _) (arrV_size _ _ _) hE
end ACR
theorem la_prim {t : Nat} : refKind (laT t) = false := by
  match t with
  | 0 => rfl
  | 1 => rfl
  | _ + 2 => rfl
abbrev cpO (w : WE) (kf kt : Nat) (i j n : Int32) : List Value := [.ref (wb w), .int (nI kf), .int i, .int (nI kt), .int j, .int n, .ref (wb w)]
set_option maxHeartbeats 4000000 in
theorem ev_X12_done {w : WE} {A : Hp} {x : XT} {S : ST} {a kf kt : Nat} {i j n : Int32} (hx : XS w A x (sF S (nI 0))) (h9 : S9 S) (h22 : mb w + 22 < A.2) (hT : TR w) (hA : A.1 a = some (.inr (11, cpO w kf kt i j n))) (hkf : kf < 4) (hkt : kt < 4) : EvY w mX12_done none 9 3 350 [.ref a] A (fun v A' => v = some (.int (sp_copy S (nI kf) i (nI kt) j n).1) ∧ ∃ x' : XT, XS w A' x' (sp_copy S (nI kf) i (nI kt) j n).2 ∧ Fx w A A') (fun X A' => ∃ (f : Nat) (x' : XT), XC X f ∧ XS w A' x' (sF S (nI 0)) ∧ Fx w A A' ∧ A'.1 a = some (.inr (11, cpO w kf kt i j n)) ∧ sp_copy S (nI kf) i (nI kt) j n = (fl f, sF S (nI f))) := by
  refine EvY.mk 0 [some (.ref a)] rfl plX12 (Nat.le_of_ble_eq_true rfl) ?_
  have hm : mb w = wb w + 21 := rfl
  refine r_aload_n 1 dX12_done_0 rfl rfl lo0 ?_
  refine r_get 4 dX12_done_1 rfl g_X12_1_11 hA rfl ?_
  refine r_aload_n 5 dX12_done_4 rfl rfl lo0 ?_
  refine r_get 8 dX12_done_5 rfl g_X12_13_11 hA rfl ?_
  cases hq : S.2.2.2.2.2 kf with
  | none =>
    have e : sp_copy S (nI kf) i (nI kt) j n = (fl 1, sF S (nI 1)) := sp_copy_1 hkf hkt (Or.inl hq)
    refine r_cNV1 11 dX12_done_8 rfl sNV_X12_29_0 hx.t (by rfl) (ev_X0_rowInN hx hkf hq) ?_
    refine r_aload_n 12 dX12_done_11 rfl rfl lo0 ?_
    refine r_get 15 dX12_done_12 rfl g_X12_17_11 hA rfl ?_
    refine r_aload_n 16 dX12_done_15 rfl rfl lo0 ?_
    refine r_get 19 dX12_done_16 rfl g_X12_1_11 hA rfl ?_
    refine r_aload_n 20 dX12_done_19 rfl rfl lo0 ?_
    refine r_get 23 dX12_done_20 rfl g_X12_20_11 hA rfl ?_
    cases hp : S.2.2.2.2.2 kt with
    | none =>
      refine r_cNV1 26 dX12_done_23 rfl sNV_X12_29_0 hx.t (by rfl) (ev_X0_rowInN hx hkt hp) ?_
      refine r_aload_n 27 dX12_done_26 rfl rfl lo0 ?_
      refine r_get 30 dX12_done_27 rfl g_X12_23_11 hA rfl ?_
      refine r_aload_n 31 dX12_done_30 rfl rfl lo0 ?_
      refine r_get 34 dX12_done_31 rfl g_X12_26_11 hA rfl ?_
      exact r_acN dX12_done_34 q943 (Or.inl ⟨rfl, Or.inl rfl⟩) hT (by rfl) (rt_wide 3 350 (by decide) (by decide) (rt_out (lw_all_tbl q941) ⟨1, x, Or.inl ⟨rfl, rfl⟩, hx.gb 1, Fx.rf.gb 1, hA, e⟩))
    | some p =>
      obtain ⟨pb, gb, hpb, b1, b2, b3, b4, b5, b6, b7⟩ := hx.some hkt hp
      refine r_cNV1 26 dX12_done_23 rfl sNV_X12_29_0 hx.t (by rfl) (ev_X0_rowIn hx hkt hpb b5) ?_
      refine r_aload_n 27 dX12_done_26 rfl rfl lo0 ?_
      refine r_get 30 dX12_done_27 rfl g_X12_23_11 hA rfl ?_
      refine r_aload_n 31 dX12_done_30 rfl rfl lo0 ?_
      refine r_get 34 dX12_done_31 rfl g_X12_26_11 hA rfl ?_
      exact r_acN dX12_done_34 q943 (Or.inl ⟨rfl, Or.inr ⟨_, rfl⟩⟩) hT (by rfl) (rt_wide 3 350 (by decide) (by decide) (rt_out (lw_all_tbl q941) ⟨1, x, Or.inl ⟨rfl, rfl⟩, hx.gb 1, Fx.rf.gb 1, hA, e⟩))
  | some q =>
    obtain ⟨pa, ga, hpa, a1, a2, a3, a4, a5, a6, a7⟩ := hx.some hkf hq
    refine r_cNV1 11 dX12_done_8 rfl sNV_X12_29_0 hx.t (by rfl) (ev_X0_rowIn hx hkf hpa a5) ?_
    refine r_aload_n 12 dX12_done_11 rfl rfl lo0 ?_
    refine r_get 15 dX12_done_12 rfl g_X12_17_11 hA rfl ?_
    refine r_aload_n 16 dX12_done_15 rfl rfl lo0 ?_
    refine r_get 19 dX12_done_16 rfl g_X12_1_11 hA rfl ?_
    refine r_aload_n 20 dX12_done_19 rfl rfl lo0 ?_
    refine r_get 23 dX12_done_20 rfl g_X12_20_11 hA rfl ?_
    cases hp : S.2.2.2.2.2 kt with
    | none =>
      have e : sp_copy S (nI kf) i (nI kt) j n = (fl 1, sF S (nI 1)) := sp_copy_1 hkf hkt (Or.inr hp)
      refine r_cNV1 26 dX12_done_23 rfl sNV_X12_29_0 hx.t (by rfl) (ev_X0_rowInN hx hkt hp) ?_
      refine r_aload_n 27 dX12_done_26 rfl rfl lo0 ?_
      refine r_get 30 dX12_done_27 rfl g_X12_23_11 hA rfl ?_
      refine r_aload_n 31 dX12_done_30 rfl rfl lo0 ?_
      refine r_get 34 dX12_done_31 rfl g_X12_26_11 hA rfl ?_
      exact r_acN dX12_done_34 q943 (Or.inr ⟨⟨_, rfl⟩, rfl⟩) hT (by rfl) (rt_wide 3 350 (by decide) (by decide) (rt_out (lw_all_tbl q941) ⟨1, x, Or.inl ⟨rfl, rfl⟩, hx.gb 1, Fx.rf.gb 1, hA, e⟩))
    | some p =>
      obtain ⟨pb, gb, hpb, b1, b2, b3, b4, b5, b6, b7⟩ := hx.some hkt hp
      refine r_cNV1 26 dX12_done_23 rfl sNV_X12_29_0 hx.t (by rfl) (ev_X0_rowIn hx hkt hpb b5) ?_
      refine r_aload_n 27 dX12_done_26 rfl rfl lo0 ?_
      refine r_get 30 dX12_done_27 rfl g_X12_23_11 hA rfl ?_
      refine r_aload_n 31 dX12_done_30 rfl rfl lo0 ?_
      refine r_get 34 dX12_done_31 rfl g_X12_26_11 hA rfl ?_
      have hs := sp_copy_2 (i := i) (j := j) (n := n) hkf hkt hq hp
      by_cases hne : q.1 = p.1
      · rw [if_neg (fun z => z hne)] at hs
        obtain ⟨l, N, gq⟩ := q
        obtain ⟨l', N1, gp⟩ := p
        dsimp only at hne a1 a2 a6 a7 b1 b2 b6 b7 hs
        subst hne
        by_cases hok : cpOk N N1 i j n = true
        · rw [if_pos hok] at hs
          obtain ⟨z1, z2, z3, z4, z5, z6, z7⟩ := cpOk_t.mp hok
          obtain ⟨i0, hi0, rfl⟩ : ∃ i0 : Nat, i0 ≤ 60 ∧ i = nI i0 := ⟨i.toInt.toNat, by omega, i_of (by omega) (by omega)⟩
          obtain ⟨j0, hj0, rfl⟩ : ∃ j0 : Nat, j0 ≤ 60 ∧ j = nI j0 := ⟨j.toInt.toNat, by omega, i_of (by omega) (by omega)⟩
          obtain ⟨n0, hn0, rfl⟩ : ∃ n0 : Nat, n0 ≤ 60 ∧ n = nI n0 := ⟨n.toInt.toNat, by omega, i_of (by omega) (by omega)⟩
          rw [nI_toInt (show i0 < 2 ^ 31 by omega)] at z1 z4 z6
          rw [nI_toInt (show j0 < 2 ^ 31 by omega)] at z2 z5 z7
          rw [nI_toInt (show n0 < 2 ^ 31 by omega)] at z3 z6 z7
          rw [nI_nat (j := i0) (by omega), nI_nat (j := j0) (by omega), nI_nat (j := n0) (by omega)] at hs
          refine r_copyI (t := ln l) (ty := laT (ln l)) 37 dX12_done_34 rfl q943 (laA ln_le) la_prim a6 b6 (by omega) (by omega) (by omega) (by omega) (by omega) (fun t ht => by rw [a7 _ (by omega)]; exact nar_fit a1 (h9.2 kf _ hq _ (by show i0 + t < N; omega))) (by rfl) ?_
          have hA2 : (hp_up A pb.2 (eI w (ln l) N1 (va_cpy ga gb i0 j0 n0))).1 a = some (.inr (11, cpO w kf kt (nI i0) (nI j0) (nI n0))) := (hp_up_n (ne_io hA b6)).trans hA
          refine r_aload_n 38 dX12_done_37 rfl rfl lo0 ?_
          refine r_get 41 dX12_done_38 rfl g_X12_26_11 hA2 rfl ?_
          refine r_ok (r_iret dX12_done_41 rfl (by decide) (by decide) ?_)
          rw [hs]
          refine ⟨rfl, x, hx.row2 (gn := cpf gq gp i0 j0 n0) hkt hp hpb b6 (fun t ht => ?_) b4, Fx.up (Or.inr b4)⟩
          show va_cpy ga gb i0 j0 n0 t = cpf gq gp i0 j0 n0 t
          unfold va_cpy cpf
          split
          · exact a7 _ (by omega)
          · exact b7 t ht
        · rw [if_neg hok] at hs
          exact r_acB dX12_done_34 q943 ln_le a2 b2 hok a6 b6 hT (by rfl) (rt_out (lw_all_tbl q941) ⟨3, x, Or.inr (Or.inr (Or.inr (Or.inr (Or.inl ⟨rfl, rfl⟩)))), hx.gb 3, Fx.rf.gb 3, hA, hs⟩)
      · rw [if_pos hne] at hs
        exact r_acT dX12_done_34 q943 ln_le ln_le (ln_inj a1 b1 hne) a6 b6 hT (by rfl) (rt_out (lw_all_tbl q941) ⟨2, x, Or.inr (Or.inr (Or.inl ⟨rfl, rfl⟩)), hx.gb 3, Fx.rf.gb 3, hA, hs⟩)
set_option maxHeartbeats 4000000 in
theorem ev_X0_copy {w : WE} {A : Hp} {x : XT} {S : ST} {k i q j n : Int32} (hx : XS w A x S) (h9 : S9 S) (h22 : mb w + 22 < A.2) (hT : TR w) : EvP w mX0_copy 13 9 1200 [.ref (wb w), .int k, .int i, .int q, .int j, .int n] A (some (.int (sp_copy S k i q j n).1)) (fun A' => ∃ x' : XT, XS w A' x' (sp_copy S k i q j n).2 ∧ Fx w A A') := by
  refine Ev.mk 0 [some (.ref (wb w)), some (.int k), some (.int i), some (.int q), some (.int j), some (.int n)] rfl plX0 (Nat.le_of_ble_eq_true rfl) ?_
  have hm : mb w = wb w + 21 := rfl
  have hno : (¬ btw k.toInt 0 3 = true ∨ ¬ btw q.toInt 0 3 = true) → Rn w mX0_copy (rmX 13 9 1200) (ZX w (fun v A' => v = some (.int (sp_copy S k i q j n).1) ∧ ∃ x' : XT, XS w A' x' (sp_copy S k i q j n).2 ∧ Fx w A A') 9 1200) 0 0 A 14 [some (.ref (wb w)), some (.int k), some (.int i), some (.int q), some (.int j), some (.int n)] [] := by
    intro h
    refine r_aload_n 15 dX0_copy_14 rfl rfl lo0 ?_
    refine r_iconst 16 dX0_copy_15 rfl ic_m1 ?_
    refine rx_V1x 19 dX0_copy_16 rfl sV_X0_259_0 hx.t (by rfl) (ev_X0_refused hx) (fun A9 hP => ?_)
    obtain ⟨x9, hx9, hF9⟩ := hP
    refine r_goto 40 dX0_copy_19 rfl ?_
    refine r_iret dX0_copy_40 rfl (by decide) (by decide) ?_
    have e : sp_copy S k i q j n = (-1, sF S (nI 0)) := by
      unfold sp_copy
      rw [if_pos h]
    rw [e]
    exact ⟨rfl, x9, hx9, hF9⟩
  refine r_iload_n 1 dX0_copy_0 rfl rfl lo1 ?_
  refine r_cS1 4 dX0_copy_1 rfl sS_X0_256 (by rfl) ev_X0_noSheet ?_
  refine r_if_neB 14 7 dX0_copy_4 rfl rfl (fun hc => ?_) (fun hc => ?_)
  · exact hno (Or.inl (by rw [nb_f hc]; decide))
  obtain ⟨kf, hkf, rfl⟩ := sheet_ok (nb_t hc)
  refine r_iload_n 8 dX0_copy_7 rfl rfl lo3 ?_
  refine r_cS1 11 dX0_copy_8 rfl sS_X0_256 (by rfl) ev_X0_noSheet ?_
  refine r_if_eqB 22 14 dX0_copy_11 rfl rfl (fun hc2 => ?_) (fun hc2 => ?_)
  rotate_left
  · exact hno (Or.inr (by rw [nb_f hc2]; decide))
  obtain ⟨kt, hkt, rfl⟩ := sheet_ok (nb_t hc2)
  refine r_new 25 dX0_copy_22 rfl sN_X0_333 dv_11 (by decide) (by decide) (fun hlt hwb => ?_)
  refine r_dup 26 dX0_copy_25 rfl rfl ?_
  refine r_aload_n 27 dX0_copy_26 rfl rfl lo0 ?_
  refine r_iload_n 28 dX0_copy_27 rfl rfl lo1 ?_
  refine r_iload_n 29 dX0_copy_28 rfl rfl lo2 ?_
  refine r_iload_n 30 dX0_copy_29 rfl rfl lo3 ?_
  refine r_iload 32 dX0_copy_30 rfl lo4 ?_
  refine r_iload 34 dX0_copy_32 rfl lo5 ?_
  refine rx_I6v 37 dX0_copy_34 rfl sI_X0_335 (by rfl) (ev_X12_init hp_new_s hwb) (fun A2 hP => ?_)
  obtain ⟨p1, p2, p3⟩ := hP
  have hx2 : XS w A2 x S := hx.keep (fun z _ y hy => by
    have := hlt z y hy
    rw [p3 z (by omega), hp_new_n (by omega)]
    exact hy)
  have hF2 : Fx w A A2 := ⟨by rw [p2]; exact Nat.le_succ _, fun z h1 h2 => by rw [p3 z (by omega), hp_new_n (by omega)]⟩
  have h22b : mb w + 22 < A2.2 := by rw [p2]; show mb w + 22 < A.2 + 1; omega
  refine r_yU (As := []) rfl 40 dX0_copy_37 rfl sY_tried11 p1 (by rfl) rfl (ev_X2_tried (d' := 9) (mc' := 3) (ms' := 350) (kf := 0) (res := sp_copy S (nI kf) i (nI kt) j n) hx2 (by omega) p1 g_X2_3_11 rfl sY_done11 (by decide) (by decide) (fun A3 x3 hx3 hF3 hle hA3 hk3 => ev_X12_done hx3 h9 (by omega) hT hA3 hkf hkt)) (fun r A' hQ => ?_) (fun _ _ h => h.elim)
  obtain ⟨rfl, x', hx', hF'⟩ := hQ
  exact r_iret dX0_copy_40 rfl (by decide) (by decide) ⟨rfl, x', hx', hF2.tr hF'⟩
