/-! LISTS: clear, addAll, toArray; a moon is made -/
set_option maxRecDepth 100000
section COPYQ
variable {w : WE} {M : MI} {R : Room} {Z : ZT} {k n : Nat} {A : Hp} {pc : Nat} {lo : List (Option Value)} {st : List Value}
theorem r_copyQ {t a0 a n0 n1 idx ci : Nat} {f g : Nat → Option Nat} {E : String} {sp dp l : Nat} (nx : Nat) (hd : decode M.2.1 pc = .ok (.invokestatic idx, 3)) (hn : pc + 3 = nx) (hlink : Cond.methodLink M.1.cls idx arraycopyName ∈ lw_all) (ht : (tyA w)[t]? = some (w.2.2.1 t, .object E)) (S : CaO ci E) (hA0 : A.1 a0 = some (eR w t n0 f)) (hA1 : A.1 a = some (eR w t n1 g)) (hb : wb w ≤ a) (hl0 : 0 < l) (h4 : sp + l ≤ n0) (h5 : dp + l ≤ n1) (hN0 : n0 < 2 ^ 31) (hN1 : n1 < 2 ^ 31) (hel : ∀ i, i < l → ∀ y, f (sp + i) = some y → ∃ fs : List Value, A.1 y = some (.inr (ci, fs)))
    (hok : decide (1 ≤ R.frames) && decide ((st.map fun v => v.category).sum + (nativeFrameWords "java/lang/System" "arraycopy" 5 + 11) ≤ R.locals) = true) (K : Rn w M R Z k n (hp_up A a (eR w t n1 (va_cpy f g sp dp l))) nx lo st) : Rn w M R Z k n A pc lo (.int (nI l) :: .int (nI dp) :: .ref a :: .int (nI sp) :: .ref a0 :: st) := by
  subst hn
  simp only [Bool.and_eq_true, decide_eq_true_eq] at hok
  intro p e s m args below meth c H locs ls C hR hL hl
  intro T hT X
  obtain ⟨Cn, T0, NN, hc, hca⟩ := S
  have hc0 : H[a0]? = some (vp_cell (w.2.2.1 t) (n0, .inr (.inr (.inr (.inr f))))) := hR.at hA0 (ex0R (j := 0) (by omega))
  have hc1 : H[a]? = some (vp_cell (w.2.2.1 t) (n1, .inr (.inr (.inr (.inr g))))) := hR.at hA1 (ex0R (j := 0) (by omega))
  obtain ⟨-, k0, hk0, cm0, hkk0⟩ := (C.k.K.2 t _ ht).1 n0 (fun j => va_rf (f j))
  obtain ⟨-, k1, hk1, cm1, hkk1⟩ := (C.k.K.2 t _ ht).1 n1 (fun j => va_rf (g j))
  have hcls := (C.k.K.1 ci _ hc).2
  have es := nI_clamp (n := sp) (by omega)
  have ed := nI_clamp (n := dp) (by omega)
  have el := nI_clamp (n := l) (by omega)
  have ts := nI_toInt (show sp < 2 ^ 31 by omega)
  have td := nI_toInt (show dp < 2 ^ 31 by omega)
  have tl := nI_toInt (show l < 2 ^ 31 by omega)
  have z0 : (0 : Int32).toInt = 0 := by decide
  have hml : c.maxLocals = ls.size := by rw [C.ml]; exact (lo_size hl).symm
  obtain ⟨vm', X', step⟩ := X.arraycopy C.x C.own (C.ts _ hlink) (C.ts _ q396) (C.ts _ q395) (C.ts _ q74) (src := a0) (dst := a) (cs := vp_cell (w.2.2.1 t) (n0, .inr (.inr (.inr (.inr f))))) (cd := vp_cell (w.2.2.1 t) (n1, .inr (.inr (.inr (.inr g))))) (srcPos := nI sp) (destPos := nI dp) (n := nI l) (by rw [hT]; exact hc0) (by rw [hT]; exact hc1)
    (fun _ h => by cases h) (fun _ h => by cases h) (fun h => by cases h) (fun h => by cases h) hk0 hk1 hkk0 hkk1 rfl (fun z => by rw [i_lt, ts, z0] at z; omega) (fun z => by rw [i_lt, td, z0] at z; omega) (fun z => by rw [i_lt, tl, z0] at z; omega)
    (by rw [ts, tl]; show ¬ _ > ((arrV (w.2.2.1 t) n0 (fun j => va_rf (f j))).slots.size : Int); rw [arrV_size]; omega)
    (by rw [td, tl]; show ¬ _ > ((arrV (w.2.2.1 t) n1 (fun j => va_rf (g j))).slots.size : Int); rw [arrV_size]; omega)
    (fun vm₁ hal i hi => by
      rw [el] at hi
      have e : (vp_cell (w.2.2.1 t) (n0, .inr (.inr (.inr (.inr f))))).slots.getD ((nI sp).toNatClampNeg + i) .null = va_rf (f (sp + i)) := by
        rw [es]
        show (arrV (w.2.2.1 t) n0 (fun j => va_rf (f j))).slots.getD _ _ = _
        rw [Array.getD_eq_getD_getElem?, arrV_read _ _ (by omega)]
        rfl
      rw [e]
      cases hy : f (sp + i) with
      | none => exact ⟨rfl, trivial⟩
      | some y =>
        obtain ⟨fs, hv⟩ := hel i hi y hy
        obtain ⟨r', hr', cellV, g1, g2, g3, -⟩ := hR.at hv
        obtain ⟨kA, comp, r1, r2, r3, -⟩ := (C.k.K.2 t _ ht).2
        cases hk1.symm.trans r1
        cases hkk1.symm.trans r2
        obtain ⟨kC, hkC, -⟩ := hcls.2
        obtain ⟨kE, hkE, -⟩ := Vm.findClass_spec r3
        obtain ⟨kC', hkC', -⟩ := hal.2.2 _ _ hkC
        obtain ⟨kE', hkE', -⟩ := hal.2.2 _ _ hkE
        have hasg : s.vm.assignable (w.2.1.1 ci) cm1 = true := by
          rcases hca with rfl | hca
          · have hcomp : cm1 = w.2.1.1 ci := Option.some.inj (r3.symm.trans hcls.1)
            rw [hcomp]
            exact va_assign hcls
          · obtain ⟨c0, t1, f1, f2, f3⟩ := Cond.castable_spec (va_Nw.use (A := args) rfl (C.k.cast hca))
            cases hcls.1.symm.trans f1
            cases r3.symm.trans f2
            exact f3
        refine ⟨rfl, cellV, (show T.heap[y]? = some cellV by rw [hT]; exact g1), (fun q h => by rw [g3] at h; cases h), ⟨kC', by rw [g2]; exact hkC'⟩, ?_, ?_⟩
        · exact ⟨kE', hkE'⟩
        · show vm₁.assignable _ _ = true
          rw [hal.assignable, g2]
          exact hasg)
    (g := F0 m pc ls (.int (nI l) :: .int (nI dp) :: .ref a :: .int (nI sp) :: .ref a0 :: st)) rfl (by rw [hml]) (rest := st) rfl (by rw [C.b]; exact hd) hok.1 (by show 2 * 0 + _ + _ ≤ _; omega)
  have e1 : copied (vp_cell (w.2.2.1 t) (n0, .inr (.inr (.inr (.inr f))))) (vp_cell (w.2.2.1 t) (n1, .inr (.inr (.inr (.inr g))))) (nI sp) (nI dp) (nI l) = vp_cell (w.2.2.1 t) (n1, .inr (.inr (.inr (.inr (va_cpy f g sp dp l))))) := by
    rw [vp_cell_q, vp_cell_q, vp_cell_q]
    have := va_copied (fun z => va_rf z) (w.2.2.1 t) (w.2.2.1 t) (n1 := n1) (dp := dp) f g h4
    show (arrV (w.2.2.1 t) n1 (fun j => va_rf (g j))).storeRun (nI dp).toNatClampNeg ((arrV (w.2.2.1 t) n0 (fun j => va_rf (f j))).stretch (nI sp).toNatClampNeg (nI l).toNatClampNeg) = _
    rw [es, ed, el]
    exact this
  rw [e1] at X' step
  have hlt : a < H.size := (Array.getElem?_eq_some_iff.mp hc1).1
  have hheap : ((T.setVm vm').setCell a (vp_cell (w.2.2.1 t) (n1, .inr (.inr (.inr (.inr (va_cpy f g sp dp l))))))).heap = H.setIfInBounds a (vp_cell (w.2.2.1 t) (n1, .inr (.inr (.inr (.inr (va_cpy f g sp dp l)))))) := by rw [← hT]; rfl
  have oq : ∀ q : Nat, q ≠ a → (H.setIfInBounds a (vp_cell (w.2.2.1 t) (n1, .inr (.inr (.inr (.inr (va_cpy f g sp dp l)))))))[q]? = H[q]? := fun q hq => by simp [Array.getElem?_setIfInBounds, Ne.symm hq]
  have hat : (H.setIfInBounds a (vp_cell (w.2.2.1 t) (n1, .inr (.inr (.inr (.inr (va_cpy f g sp dp l)))))))[a]? = some (vp_cell (w.2.2.1 t) (n1, .inr (.inr (.inr (.inr (va_cpy f g sp dp l)))))) := by simp [Array.getElem?_setIfInBounds, hlt]
  obtain ⟨t', a1, b1⟩ := K p e s m args below meth c _ _ ls C (hR.up hb hat (by simp) oq) (fun q hq => by
      rcases List.mem_append.mp hq with h | h
      · exact hL q h
      · obtain ⟨z, -, hz⟩ := List.mem_map.mp h
        rw [← hz]
        exact hb) hl _ hheap X'
  exact ⟨t', step t' a1, b1⟩
/-- the class object of Object[] -/
abbrev KM (w : WE) : Prop := va_Mi "[Ljava/lang/Object;" (w.2.2.2.2 2) (ws0 w)
theorem r_ldcM {idx : Nat} (nx : Nat) (hd : decode M.2.1 pc = .ok (.ldc idx, 2)) (hn : pc + 2 = nx) (hlink : Cond.classLink M.1.cls idx "[Ljava/lang/Object;" ∈ lw_all) (hM : KM w) (K : Rn w M R Z k n A nx lo (.ref (w.2.2.2.2 2) :: st)) : Rn w M R Z k n A pc lo st := by
  subst hn
  intro p e s m args below meth c H locs ls C hR hL hl
  exact va_ldcM C.x C.b C.own (C.ts _ hlink) (va_Mi.moved C.k.2.2.2.alike hM) hd (K p e s m args below meth c H locs ls C hR hL hl)
theorem r_getC {idx a N : Nat} {g : Nat → Option Nat} (nx : Nat) (hd : decode M.2.1 pc = .ok (.invokevirtual idx, 3)) (hn : pc + 3 = nx) (hlink : Cond.methodLink M.1.cls idx ⟨"java/lang/Object", "getClass", "()Ljava/lang/Class;"⟩ ∈ lw_all) (hM : KM w) (hA : A.1 a = some (eR w 5 N g)) (hN0 : 0 < N) (hok : decide (1 ≤ R.frames) && decide ((st.map fun v => v.category).sum + 14 ≤ R.locals) = true) (K : Rn w M R Z k n A nx lo (.ref (w.2.2.2.2 2) :: st)) : Rn w M R Z k n A pc lo (.ref a :: st) := by
  subst hn
  simp only [Bool.and_eq_true, decide_eq_true_eq] at hok
  intro p e s m args below meth c H locs ls C hR hL hl
  have hat : H[a]? = some (vp_cell (w.2.2.1 5) (N, .inr (.inr (.inr (.inr g))))) := hR.at hA (ex0R hN0)
  have hdc : va_Dc s := va_Dc.moved C.k.2.2.2.alike (va_Dc.of (C.k.1 _ q1523))
  have hfc : s.vm.findClass "[Ljava/lang/Object;" = some (w.2.2.1 5) := va_nmO (C.k.K.2 5 _ rfl).2 (by decide)
  exact va_getC (C := "[Ljava/lang/Object;") C.x C.b (by rw [C.ml]; exact (lo_size hl).symm) C.own (C.ts _ hlink) (va_Dc.use hdc) (C.ts _ q1522) (C.ts _ q365) (C.ts _ q386) (va_Mi.moved C.k.2.2.2.alike hM) ⟨_, hat, rfl, hfc⟩ hok.1 hok.2 hd (K p e s m args below meth c H locs ls C hR hL hl)
end COPYQ
set_option maxHeartbeats 4000000 in
theorem ev_J17_copyOf_2 {w : WE} {A : Hp} {a cap l ci : Nat} {g : Nat → Option Nat} (hE : A.1 a = some (eR w 5 cap g)) (hl0 : 0 < l) (hl : l ≤ cap) (hc : cap ≤ 10) (S : CaO ci "java/lang/Object") (hel : ∀ i, i < l → ∀ y, g i = some y → ∃ fs : List Value, A.1 y = some (.inr (ci, fs))) (hM : KM w) : EvP w mJ17_copyOf_2 2 1 10 [.ref a, .int (nI l), .ref (w.2.2.2.2 2)] A (some (.ref A.2)) (fun A' => A' = hp_up (hp_new A (eR w 5 l (fun _ => none))) A.2 (eR w 5 l (va_cpy g (fun _ => none) 0 0 l))) := by
  refine Ev.mk 1 [some (.ref a), some (.int (nI l)), some (.ref (w.2.2.2.2 2)), none] rfl plJ17 (Nat.le_of_ble_eq_true rfl) ?_
  refine r_aload_n 1 dJ17_copyOf_2_0 rfl rfl lo2 ?_
  refine r_ldcM 3 dJ17_copyOf_2_1 rfl q390 hM ?_
  refine r_acmp_ne 13 6 dJ17_copyOf_2_3 rfl (by decide) (fun hc3 => ?_) (fun hc3 => ?_)
  · exact absurd rfl hc3
  · refine r_iload_n 7 dJ17_copyOf_2_6 rfl rfl lo1 ?_
    refine r_anew (t := 5) (N := l) 10 dJ17_copyOf_2_7 rfl q392 q391 rfl rfl (by omega) (by show 0 + 1 ≤ 1; omega) (by show 0 + l ≤ 10; omega) (fun hlt hwb => ?_)
    refine r_wide 1 10 (by decide) (by omega) ?_
    have hne : a ≠ A.2 := Nat.ne_of_lt (hlt _ _ hE)
    have hE2 := (hp_new_n (e := eR w 5 l (fun _ => none)) hne).trans hE
    refine r_goto 24 dJ17_copyOf_2_10 (by decide) ?_
    refine r_astore_n 25 dJ17_copyOf_2_24 rfl rfl so3 rfl ?_
    refine r_aload_n 26 dJ17_copyOf_2_25 rfl rfl lo0 ?_
    refine r_iconst 27 dJ17_copyOf_2_26 rfl ic_0 ?_
    refine r_aload_n 28 dJ17_copyOf_2_27 rfl rfl lo3 ?_
    refine r_iconst 29 dJ17_copyOf_2_28 rfl ic_0 ?_
    refine r_aload_n 30 dJ17_copyOf_2_29 rfl rfl lo0 ?_
    refine r_alen (t := 5) 31 dJ17_copyOf_2_30 rfl rfl hE2 ?_
    refine r_iload_n 32 dJ17_copyOf_2_31 rfl rfl lo1 ?_
    refine r_mminN 35 dJ17_copyOf_2_32 rfl q393 (by rfl) (by omega) (by omega) ?_
    rw [Nat.min_eq_right hl]
    refine r_copyQ (t := 5) (sp := 0) (dp := 0) 38 dJ17_copyOf_2_35 rfl q394 rfl S hE2 hp_new_s hwb hl0 (by omega) (by omega) (by omega) (by omega) (fun i hi y hy => ?_) (by rfl) ?_
    · rw [Nat.zero_add] at hy
      obtain ⟨fs, hf⟩ := hel i hi y hy
      exact ⟨fs, (hp_new_n (Nat.ne_of_lt (hlt _ _ hf))).trans hf⟩
    refine r_aload_n 39 dJ17_copyOf_2_38 rfl rfl lo3 ?_
    refine r_wide 1 10 (by omega) (by omega) ?_
    exact r_aret dJ17_copyOf_2_39 rfl (Or.inr ⟨_, rfl⟩) (Or.inr ⟨_, rfl⟩) (Nat.le_refl _) (Nat.le_refl _) ⟨rfl, rfl⟩

set_option maxHeartbeats 4000000 in
theorem ev_J17_copyOf {w : WE} {A : Hp} {a cap l ci : Nat} {g : Nat → Option Nat} (hE : A.1 a = some (eR w 5 cap g)) (hl0 : 0 < l) (hl : l ≤ cap) (hc : cap ≤ 10) (S : CaO ci "java/lang/Object") (hel : ∀ i, i < l → ∀ y, g i = some y → ∃ fs : List Value, A.1 y = some (.inr (ci, fs))) (hM : KM w) : EvP w mJ17_copyOf 3 1 10 [.ref a, .int (nI l)] A (some (.ref A.2)) (fun A' => A' = hp_up (hp_new A (eR w 5 l (fun _ => none))) A.2 (eR w 5 l (va_cpy g (fun _ => none) 0 0 l))) := by
  refine Ev.mk 0 [some (.ref a), some (.int (nI l))] rfl plJ17 (Nat.le_of_ble_eq_true rfl) ?_
  refine r_aload_n 1 dJ17_copyOf_0 rfl rfl lo0 ?_
  refine r_iload_n 2 dJ17_copyOf_1 rfl rfl lo1 ?_
  refine r_aload_n 3 dJ17_copyOf_2 rfl rfl lo0 ?_
  refine r_getC 6 dJ17_copyOf_3 rfl q364 hM hE (by omega) (by rfl) ?_
  refine rx_S3x 9 dJ17_copyOf_6 rfl sS_J17_300 (by rfl) (ev_J17_copyOf_2 hE hl0 hl hc S hel hM) (fun A hP => ?_)
  subst hP
  exact r_aret dJ17_copyOf_9 rfl (Or.inr ⟨_, rfl⟩) (Or.inr ⟨_, rfl⟩) (Nat.le_refl _) (Nat.le_refl _) ⟨rfl, rfl⟩

set_option maxHeartbeats 4000000 in
theorem ev_J2_toArray {w : WE} {A : Hp} {b a cap l ci : Nat} {g : Nat → Option Nat} {c : Int32} (hA : A.1 b = some (.inr (7, alF c a l))) (hE : A.1 a = some (eR w 5 cap g)) (hl0 : 0 < l) (hl : l ≤ cap) (hc : cap ≤ 10) (S : CaO ci "java/lang/Object") (hel : ∀ i, i < l → ∀ y, g i = some y → ∃ fs : List Value, A.1 y = some (.inr (ci, fs))) (hM : KM w) : EvP w mJ2_toArray 4 1 10 [.ref b] A (some (.ref A.2)) (fun A' => A' = hp_up (hp_new A (eR w 5 l (fun _ => none))) A.2 (eR w 5 l (va_cpy g (fun _ => none) 0 0 l))) := by
  refine Ev.mk 0 [some (.ref b)] rfl plJ2 (Nat.le_of_ble_eq_true rfl) ?_
  refine r_aload_n 1 dJ2_toArray_0 rfl rfl lo0 ?_
  refine r_get 4 dJ2_toArray_1 rfl g_J2_9_7 hA lo1 ?_
  refine r_aload_n 5 dJ2_toArray_4 rfl rfl lo0 ?_
  refine r_get 8 dJ2_toArray_5 rfl g_J2_48_7 hA lo2 ?_
  refine rx_S2x 11 dJ2_toArray_8 rfl sS_J2_66 (by rfl) (ev_J17_copyOf hE hl0 hl hc S hel hM) (fun A hP => ?_)
  subst hP
  exact r_aret dJ2_toArray_11 rfl (Or.inr ⟨_, rfl⟩) (Or.inr ⟨_, rfl⟩) (Nat.le_refl _) (Nat.le_refl _) ⟨rfl, rfl⟩

set_option maxHeartbeats 4000000 in
theorem lp_J2_clear {w : WE} {A0 : Hp} {a e n cap : Nat} {g : Nat → Option Nat} {c : Int32} (hwe : wb w ≤ e ∨ n = 0) (hn : n ≤ cap) (hcp : cap ≤ 10) : ∀ (j i : Nat) (A : Hp) (g1 : Nat → Option Nat), i + j = n → A.1 a = some (.inr (7, alF (c + nI 1) e 0)) → A.1 e = some (eR w 5 cap g1) → (n = 0 → g1 = g) → A.2 = A0.2 → (∀ q, q ≠ a → q ≠ e → A.1 q = A0.1 q) → Rn w mJ2_clear (rmX 0 0 0) (ZX w (fun v A' => v = none ∧ (fun A' => A'.1 a = some (.inr (7, alF (c + nI 1) e 0)) ∧ (∃ g' : Nat → Option Nat, A'.1 e = some (eR w 5 cap g') ∧ (n = 0 → g' = g)) ∧ A'.2 = A0.2 ∧ ∀ q, q ≠ a → q ≠ e → A'.1 q = A0.1 q) A') 0 0) 0 0 A 27 [some (.ref a), some (.ref e), some (.int (nI n)), some (.int (nI i))] [] := by
  intro j
  induction j with
  | zero =>
    intro i A g1 hij hA hE hg hz ho
    refine r_iload_n 28 dJ2_clear_27 rfl rfl lo3 ?_
    refine r_iload_n 29 dJ2_clear_28 rfl rfl lo2 ?_
    first | refine r_icmp_geN 42 32 dJ2_clear_29 rfl (by decide) (by omega) (by omega) (fun hc29 => ?_) (fun hc29 => ?_) | refine r_icmp_ge 42 32 dJ2_clear_29 rfl (by decide) (fun hc29 => ?_) (fun hc29 => ?_)
    · exact r_vret dJ2_clear_42 rfl (Nat.le_refl _) (Nat.le_refl _) ⟨rfl, hA, ⟨g1, hE, hg⟩, hz, ho⟩
    · exact absurd hc29 (by omega)
  | succ j ih =>
    intro i A g1 hij hA hE hg hz ho
    have hne := ne_io hA hE
    refine r_iload_n 28 dJ2_clear_27 rfl rfl lo3 ?_
    refine r_iload_n 29 dJ2_clear_28 rfl rfl lo2 ?_
    first | refine r_icmp_geN 42 32 dJ2_clear_29 rfl (by decide) (by omega) (by omega) (fun hc29 => ?_) (fun hc29 => ?_) | refine r_icmp_ge 42 32 dJ2_clear_29 rfl (by decide) (fun hc29 => ?_) (fun hc29 => ?_)
    · exact absurd hc29 (by omega)
    · refine r_aload_n 33 dJ2_clear_32 rfl rfl lo1 ?_
      refine r_iload_n 34 dJ2_clear_33 rfl rfl lo3 ?_
      refine r_null 35 dJ2_clear_34 rfl ?_
      refine r_aastN (t := 5) 36 dJ2_clear_35 rfl rfl hE (by omega) i rfl (by omega) (by omega) ?_
      refine r_iinc 39 dJ2_clear_36 rfl lo3 inc1 so3 rfl ?_
      refine r_goto 27 dJ2_clear_39 (by decide) ?_
      exact ih (i + 1) _ _ (by omega) ((hp_up_n hne).trans hA) hp_up_s (fun z => absurd z (by omega)) hz (fun q q1 q2 => (hp_up_n q2).trans (ho q q1 q2))

set_option maxHeartbeats 4000000 in
theorem ev_J2_clear {w : WE} {A : Hp} {a e n cap : Nat} {g : Nat → Option Nat} {c : Int32} (hA : A.1 a = some (.inr (7, alF c e n))) (hE : A.1 e = some (eR w 5 cap g)) (hba : wb w ≤ a) (hwe : wb w ≤ e ∨ n = 0) (hn : n ≤ cap) (hcp : cap ≤ 10) : EvP w mJ2_clear 0 0 0 [.ref a] A none (fun A' => A'.1 a = some (.inr (7, alF (c + nI 1) e 0)) ∧ (∃ g' : Nat → Option Nat, A'.1 e = some (eR w 5 cap g') ∧ (n = 0 → g' = g)) ∧ A'.2 = A.2 ∧ ∀ q, q ≠ a → q ≠ e → A'.1 q = A.1 q) := by
  refine Ev.mk 3 [some (.ref a), none, none, none] rfl plJ2 (Nat.le_of_ble_eq_true rfl) ?_
  have hne := ne_io hA hE
  refine r_aload_n 1 dJ2_clear_0 rfl rfl lo0 ?_
  refine r_dup 2 dJ2_clear_1 rfl rfl ?_
  refine r_get 5 dJ2_clear_2 rfl g_J2_63_7 hA lo0 ?_
  refine r_iconst 6 dJ2_clear_5 rfl ic_1 ?_
  refine r_iadd 7 dJ2_clear_6 rfl ?_
  refine r_put 10 dJ2_clear_7 rfl g_J2_63_7 cw_7 fw_7_0 hA hba so0 (Nat.le_of_ble_eq_true rfl) rfl rfl ?_
  refine r_aload_n 11 dJ2_clear_10 rfl rfl lo0 ?_
  refine r_get 14 dJ2_clear_11 rfl g_J2_9_7 hp_up_s lo1 ?_
  refine r_astore_n 15 dJ2_clear_14 rfl rfl so1 rfl ?_
  refine r_aload_n 16 dJ2_clear_15 rfl rfl lo0 ?_
  refine r_get 19 dJ2_clear_16 rfl g_J2_48_7 hp_up_s lo2 ?_
  refine r_istore_n 20 dJ2_clear_19 rfl rfl so2 rfl ?_
  refine r_aload_n 21 dJ2_clear_20 rfl rfl lo0 ?_
  refine r_iconst 22 dJ2_clear_21 rfl ic_0 ?_
  refine r_dup_x1 23 dJ2_clear_22 rfl rfl rfl ?_
  refine r_put 26 dJ2_clear_23 rfl g_J2_48_7 cw_7 fw_7_2 hp_up_s hba so2 (Nat.le_of_ble_eq_true rfl) rfl rfl ?_
  refine r_istore_n 27 dJ2_clear_26 rfl rfl so3 rfl ?_
  exact lp_J2_clear hwe hn hcp n 0 _ g (by omega) hp_up_s ((hp_up_n (Ne.symm hne)).trans ((hp_up_n (Ne.symm hne)).trans hE)) (fun _ => rfl) rfl (fun q q1 q2 => (hp_up_n q1).trans (hp_up_n q1))

set_option maxHeartbeats 4000000 in
theorem ev_J2_addAll {w : WE} {A : Hp} {a e b e2 cap cap2 l ci : Nat} {g g2 : Nat → Option Nat} {c c2 : Int32} (hA : A.1 a = some (.inr (7, alF c e 0))) (hE : A.1 e = some (eR w 5 cap g)) (hD : KD w) (hM : KM w) (hba : wb w ≤ a) (hdy : (wb w ≤ e ∧ cap = 10) ∨ (e = de w ∧ cap = 0 ∧ g = fun _ => none)) (hab : a ≠ b) (hB : A.1 b = some (.inr (7, alF c2 e2 l))) (hE2 : A.1 e2 = some (eR w 5 cap2 g2)) (hl1 : 1 ≤ l) (hl : l ≤ 3) (hl2 : l ≤ cap2) (hc2 : cap2 ≤ 10) (S : CaO ci "java/lang/Object") (h7 : ci ≠ 7) (hel : ∀ i, i < l → ∀ y, g2 i = some y → ∃ fs : List Value, A.1 y = some (.inr (ci, fs))) : EvP w mJ2_addAll 5 2 20 [.ref a, .ref b] A (some (.int (nI 1))) (fun A' => ∃ (e' : Nat) (g' : Nat → Option Nat), A'.1 a = some (.inr (7, alF (c + nI 1) e' l)) ∧ A'.1 e' = some (eR w 5 10 g') ∧ (e' = e ∧ wb w ≤ e ∨ A.2 ≤ e') ∧ A.2 ≤ A'.2 ∧ e' < A'.2 ∧ (∀ i, i < l → g' i = g2 i) ∧ ∀ q, q ≠ a → q ≠ e' → q < A.2 → A'.1 q = A.1 q) := by
  refine Ev.mk 4 [some (.ref a), some (.ref b), none, none, none, none] rfl plJ2 (Nat.le_of_ble_eq_true rfl) ?_
  refine r_fresh (fun hlt hwb => ?_)
  have hae := ne_io hA hE
  have ha2 := hlt _ _ hA
  have hat : a ≠ A.2 := by omega
  have het : e ≠ A.2 := Nat.ne_of_lt (hlt _ _ hE)
  have hA1 : (hp_up (hp_new A (eR w 5 l (fun _ => none))) A.2 (eR w 5 l (va_cpy g2 (fun _ => none) 0 0 l))).1 a = some (.inr (7, alF c e 0)) := (hp_up_n hat).trans ((hp_new_n hat).trans hA)
  have hT2 : (hp_up (hp_up (hp_new A (eR w 5 l (fun _ => none))) A.2 (eR w 5 l (va_cpy g2 (fun _ => none) 0 0 l))) a (.inr (7, alF (c + nI 1) e 0))).1 A.2 = some (eR w 5 l (va_cpy g2 (fun _ => none) 0 0 l)) := (hp_up_n (Ne.symm hat)).trans hp_up_s
  have hE3 : (hp_up (hp_up (hp_new A (eR w 5 l (fun _ => none))) A.2 (eR w 5 l (va_cpy g2 (fun _ => none) 0 0 l))) a (.inr (7, alF (c + nI 1) e 0))).1 e = some (eR w 5 cap g) := (hp_up_n (Ne.symm hae)).trans ((hp_up_n het).trans ((hp_new_n het).trans hE))
  have hcp : ∀ i, i < l → va_cpy g2 (fun _ => none) 0 0 l i = g2 i := fun i hi => (if_pos ⟨Nat.zero_le _, by omega⟩).trans (by rw [Nat.zero_add, Nat.sub_zero])
  have hylt : ∀ i, i < l → ∀ y, va_cpy g2 (fun _ => none) 0 0 l (0 + i) = some y → y < A.2 := fun i hi y hy => by
    rw [Nat.zero_add, hcp i hi] at hy
    obtain ⟨fs, hf⟩ := hel i hi y hy
    exact hlt _ _ hf
  have hel3 : ∀ i, i < l → ∀ y, va_cpy g2 (fun _ => none) 0 0 l (0 + i) = some y → ∃ fs : List Value, (hp_up (hp_up (hp_new A (eR w 5 l (fun _ => none))) A.2 (eR w 5 l (va_cpy g2 (fun _ => none) 0 0 l))) a (.inr (7, alF (c + nI 1) e 0))).1 y = some (.inr (ci, fs)) := fun i hi y hy => by
    have hy2 := hylt i hi y hy
    rw [Nat.zero_add, hcp i hi] at hy
    obtain ⟨fs, hf⟩ := hel i hi y hy
    exact ⟨fs, (hp_up_n (ne_oo hf hA h7)).trans ((hp_up_n (by omega)).trans ((hp_new_n (by omega)).trans hf))⟩
  have hg2 : ∀ {gg : Nat → Option Nat} i, i < l → va_cpy (va_cpy g2 (fun _ => none) 0 0 l) gg 0 0 l i = g2 i := fun i hi => (if_pos ⟨Nat.zero_le _, by omega⟩).trans (by rw [Nat.zero_add, Nat.sub_zero, hcp i hi])
  rcases hdy with hdy | ⟨rfl, rfl, rfl⟩
  · have hcap := hdy.2
    subst hcap
    refine r_aload_n 1 dJ2_addAll_0 rfl rfl lo1 ?_
    refine rx_F0x 6 dJ2_addAll_1 rfl sF_J2_42_7 hB (by rfl) (ev_J2_toArray hB hE2 hl1 hl2 hc2 S hel hM) (fun A1 hP => ?_)
    subst hP
    refine r_astore_n 7 dJ2_addAll_6 rfl rfl so2 rfl ?_
    refine r_aload_n 8 dJ2_addAll_7 rfl rfl lo0 ?_
    refine r_dup 9 dJ2_addAll_8 rfl rfl ?_
    refine r_get 12 dJ2_addAll_9 rfl g_J2_63_7 hA1 lo0 ?_
    refine r_iconst 13 dJ2_addAll_12 rfl ic_1 ?_
    first | refine r_iaddN 14 dJ2_addAll_13 rfl ?_ | refine r_iadd 14 dJ2_addAll_13 rfl ?_
    refine r_put 17 dJ2_addAll_14 rfl g_J2_63_7 cw_7 fw_7_0 hA1 hba so0 (Nat.le_of_ble_eq_true rfl) rfl rfl ?_
    refine r_aload_n 18 dJ2_addAll_17 rfl rfl lo2 ?_
    refine r_alen (t := 5) 19 dJ2_addAll_18 rfl rfl hT2 ?_
    refine r_istore_n 20 dJ2_addAll_19 rfl rfl so3 rfl ?_
    refine r_iload_n 21 dJ2_addAll_20 rfl rfl lo3 ?_
    first | refine r_if_neN 26 24 dJ2_addAll_21 rfl (by decide) (by omega) (fun hc21 => ?_) (fun hc21 => ?_) | refine r_if_ne 26 24 dJ2_addAll_21 rfl (by decide) (fun hc21 => ?_) (fun hc21 => ?_)
    · refine r_iload_n 27 dJ2_addAll_26 rfl rfl lo3 ?_
      refine r_aload_n 28 dJ2_addAll_27 rfl rfl lo0 ?_
      refine r_get 31 dJ2_addAll_28 rfl g_J2_9_7 hp_up_s lo1 ?_
      refine r_dup 32 dJ2_addAll_31 rfl rfl ?_
      refine r_astore 34 dJ2_addAll_32 rfl so4 rfl ?_
      refine r_alen (t := 5) 35 dJ2_addAll_34 rfl rfl hE3 ?_
      refine r_aload_n 36 dJ2_addAll_35 rfl rfl lo0 ?_
      refine r_get 39 dJ2_addAll_36 rfl g_J2_48_7 hp_up_s lo2 ?_
      refine r_dup 40 dJ2_addAll_39 rfl rfl ?_
      refine r_istore 42 dJ2_addAll_40 rfl so5 rfl ?_
      first | refine r_isubN 43 dJ2_addAll_42 rfl (by omega) ?_ | refine r_isub 43 dJ2_addAll_42 rfl ?_
      first | refine r_icmp_leN 56 46 dJ2_addAll_43 rfl (by decide) (by omega) (by omega) (fun hc43 => ?_) (fun hc43 => ?_) | refine r_icmp_le 56 46 dJ2_addAll_43 rfl (by decide) (fun hc43 => ?_) (fun hc43 => ?_)
      · refine r_aload_n 57 dJ2_addAll_56 rfl rfl lo2 ?_
        refine r_iconst 58 dJ2_addAll_57 rfl ic_0 ?_
        refine r_aload 60 dJ2_addAll_58 rfl lo4 ?_
        refine r_iload 62 dJ2_addAll_60 rfl lo5 ?_
        refine r_iload_n 63 dJ2_addAll_62 rfl rfl lo3 ?_
        refine r_copyQ (t := 5) (sp := 0) (dp := 0) 66 dJ2_addAll_63 rfl q937 rfl S hT2 hE3 hdy.1 hl1 (by omega) (by omega) (by omega) (by omega) hel3 (by rfl) ?_
        refine r_aload_n 67 dJ2_addAll_66 rfl rfl lo0 ?_
        refine r_iload 69 dJ2_addAll_67 rfl lo5 ?_
        refine r_iload_n 70 dJ2_addAll_69 rfl rfl lo3 ?_
        first | refine r_iaddN 71 dJ2_addAll_70 rfl ?_ | refine r_iadd 71 dJ2_addAll_70 rfl ?_
        refine r_put 74 dJ2_addAll_71 rfl g_J2_48_7 cw_7 fw_7_2 ((hp_up_n hae).trans hp_up_s) hba so2 (Nat.le_of_ble_eq_true rfl) rfl rfl ?_
        refine r_iconst 75 dJ2_addAll_74 rfl ic_1 ?_
        refine r_wide 2 20 (by show 0 + 1 ≤ 2; omega) (by show 0 + 10 ≤ 20; omega) ?_
        exact r_zret dJ2_addAll_75 rfl (by first | exact nb_b _ | exact nb_0 | exact nb_1) (Nat.le_refl _) (Nat.le_refl _) ⟨rfl, e, _, by show (hp_up _ _ _).1 a = some (.inr (7, alF (c + nI 1) e l)); rw [hp_up_s, Nat.zero_add], (hp_up_n (Ne.symm hae)).trans hp_up_s, Or.inl ⟨rfl, hdy.1⟩, by show A.2 ≤ A.2 + 1; omega, by have := hlt _ _ hE; show e < A.2 + 1; omega, fun i hi => hg2 i hi, fun q q1 q2 q3 => (hp_up_n q1).trans ((hp_up_n q2).trans ((hp_up_n q1).trans ((hp_up_n (by omega)).trans (hp_new_n (by omega)))))⟩
      · exact absurd hc43 (by omega)
    · exact absurd hc21 (by omega)
  · skip
    refine r_aload_n 1 dJ2_addAll_0 rfl rfl lo1 ?_
    refine rx_F0x 6 dJ2_addAll_1 rfl sF_J2_42_7 hB (by rfl) (ev_J2_toArray hB hE2 hl1 hl2 hc2 S hel hM) (fun A1 hP => ?_)
    subst hP
    refine r_astore_n 7 dJ2_addAll_6 rfl rfl so2 rfl ?_
    refine r_aload_n 8 dJ2_addAll_7 rfl rfl lo0 ?_
    refine r_dup 9 dJ2_addAll_8 rfl rfl ?_
    refine r_get 12 dJ2_addAll_9 rfl g_J2_63_7 hA1 lo0 ?_
    refine r_iconst 13 dJ2_addAll_12 rfl ic_1 ?_
    first | refine r_iaddN 14 dJ2_addAll_13 rfl ?_ | refine r_iadd 14 dJ2_addAll_13 rfl ?_
    refine r_put 17 dJ2_addAll_14 rfl g_J2_63_7 cw_7 fw_7_0 hA1 hba so0 (Nat.le_of_ble_eq_true rfl) rfl rfl ?_
    refine r_aload_n 18 dJ2_addAll_17 rfl rfl lo2 ?_
    refine r_alen (t := 5) 19 dJ2_addAll_18 rfl rfl hT2 ?_
    refine r_istore_n 20 dJ2_addAll_19 rfl rfl so3 rfl ?_
    refine r_iload_n 21 dJ2_addAll_20 rfl rfl lo3 ?_
    first | refine r_if_neN 26 24 dJ2_addAll_21 rfl (by decide) (by omega) (fun hc21 => ?_) (fun hc21 => ?_) | refine r_if_ne 26 24 dJ2_addAll_21 rfl (by decide) (fun hc21 => ?_) (fun hc21 => ?_)
    · refine r_iload_n 27 dJ2_addAll_26 rfl rfl lo3 ?_
      refine r_aload_n 28 dJ2_addAll_27 rfl rfl lo0 ?_
      refine r_get 31 dJ2_addAll_28 rfl g_J2_9_7 hp_up_s lo1 ?_
      refine r_dup 32 dJ2_addAll_31 rfl rfl ?_
      refine r_astore 34 dJ2_addAll_32 rfl so4 rfl ?_
      refine r_alen (t := 5) 35 dJ2_addAll_34 rfl rfl hE3 ?_
      refine r_aload_n 36 dJ2_addAll_35 rfl rfl lo0 ?_
      refine r_get 39 dJ2_addAll_36 rfl g_J2_48_7 hp_up_s lo2 ?_
      refine r_dup 40 dJ2_addAll_39 rfl rfl ?_
      refine r_istore 42 dJ2_addAll_40 rfl so5 rfl ?_
      first | refine r_isubN 43 dJ2_addAll_42 rfl (by omega) ?_ | refine r_isub 43 dJ2_addAll_42 rfl ?_
      first | refine r_icmp_leN 56 46 dJ2_addAll_43 rfl (by decide) (by omega) (by omega) (fun hc43 => ?_) (fun hc43 => ?_) | refine r_icmp_le 56 46 dJ2_addAll_43 rfl (by decide) (fun hc43 => ?_) (fun hc43 => ?_)
      · exact absurd hc43 (by omega)
      · refine r_aload_n 47 dJ2_addAll_46 rfl rfl lo0 ?_
        refine r_iload 49 dJ2_addAll_47 rfl lo5 ?_
        refine r_iload_n 50 dJ2_addAll_49 rfl rfl lo3 ?_
        first | refine r_iaddN 51 dJ2_addAll_50 rfl ?_ | refine r_iadd 51 dJ2_addAll_50 rfl ?_
        refine rx_V1x 54 dJ2_addAll_51 rfl sV_J2_69_7 hp_up_s (by rfl) (ev_J2_grow_2 hp_up_s hE3 hD hba (by omega)) (fun A2 hP => ?_)
        subst hP
        have hT3 := (hp_up_n (e := .inr (7, alF (c + nI 1) (A.2 + 1) 0)) (Ne.symm hat)).trans ((hp_new_n (A := hp_up (hp_up (hp_new A (eR w 5 l (fun _ => none))) A.2 (eR w 5 l (va_cpy g2 (fun _ => none) 0 0 l))) a (.inr (7, alF (c + nI 1) (de w) 0))) (e := eR w 5 10 (fun _ => none)) (q := A.2) (show A.2 ≠ A.2 + 1 by omega)).trans hT2)
        refine r_astore 56 dJ2_addAll_54 rfl so4 rfl ?_
        refine r_aload_n 57 dJ2_addAll_56 rfl rfl lo2 ?_
        refine r_iconst 58 dJ2_addAll_57 rfl ic_0 ?_
        refine r_aload 60 dJ2_addAll_58 rfl lo4 ?_
        refine r_iload 62 dJ2_addAll_60 rfl lo5 ?_
        refine r_iload_n 63 dJ2_addAll_62 rfl rfl lo3 ?_
        refine r_copyQ (t := 5) (sp := 0) (dp := 0) (a := A.2 + 1) 66 dJ2_addAll_63 rfl q937 rfl S hT3 ((hp_up_n (show A.2 + 1 ≠ a by omega)).trans hp_new_s) (by omega) hl1 (by omega) (by omega) (by omega) (by omega) (fun i hi y hy => ?_) (by rfl) ?_
        · obtain ⟨fs, hf⟩ := hel3 i hi y hy
          have hya : y ≠ a := fun z => by rw [z] at hf; exact absurd (Option.some.inj (hf.symm.trans hp_up_s)) (fun z => by cases z; exact h7 rfl)
          have hyl := hylt i hi y hy
          exact ⟨fs, (hp_up_n hya).trans ((hp_new_n (show y ≠ A.2 + 1 by omega)).trans hf)⟩
        refine r_aload_n 67 dJ2_addAll_66 rfl rfl lo0 ?_
        refine r_iload 69 dJ2_addAll_67 rfl lo5 ?_
        refine r_iload_n 70 dJ2_addAll_69 rfl rfl lo3 ?_
        first | refine r_iaddN 71 dJ2_addAll_70 rfl ?_ | refine r_iadd 71 dJ2_addAll_70 rfl ?_
        refine r_put 74 dJ2_addAll_71 rfl g_J2_48_7 cw_7 fw_7_2 ((hp_up_n (show a ≠ A.2 + 1 by omega)).trans hp_up_s) hba so2 (Nat.le_of_ble_eq_true rfl) rfl rfl ?_
        refine r_iconst 75 dJ2_addAll_74 rfl ic_1 ?_
        exact r_zret dJ2_addAll_75 rfl (by first | exact nb_b _ | exact nb_0 | exact nb_1) (by show 0 + 1 + 1 ≤ 2; omega) (by show 0 + 10 + 10 ≤ 20; omega) ⟨rfl, A.2 + 1, _, by show (hp_up _ _ _).1 a = some (.inr (7, alF (c + nI 1) (A.2 + 1) l)); rw [hp_up_s, Nat.zero_add]; rfl, (hp_up_n (show A.2 + 1 ≠ a by omega)).trans hp_up_s, Or.inr (by omega), by show A.2 ≤ A.2 + 1 + 1; omega, by show A.2 + 1 < A.2 + 1 + 1; omega, fun i hi => hg2 i hi, fun q q1 q2 q3 => (hp_up_n q1).trans ((hp_up_n q2).trans ((hp_up_n q1).trans ((hp_new_n (show q ≠ A.2 + 1 by omega)).trans ((hp_up_n q1).trans ((hp_up_n (show q ≠ A.2 by omega)).trans (hp_new_n (by omega)))))))⟩
    · exact absurd hc21 (by omega)

-- fields {7: 'g_X5_7_2', 13: 'g_X5_13_2', 16: 'g_X5_16_2'}
set_option maxHeartbeats 4000000 in
theorem ev_X5_init {w : WE} {A : Hp} {a : Nat} {x y z : Int32} {f0 f1 f2 : Value} (hA : A.1 a = some (.inr (2, [f0, f1, f2]))) (hba : wb w ≤ a) : EvP w mX5_init 1 0 0 [.ref a, .int x, .int y, .int z] A none (fun A' => A'.1 a = some (.inr (2, [.int x, .int y, .int z])) ∧ A'.2 = A.2 ∧ ∀ q, q ≠ a → A'.1 q = A.1 q) := by
  refine Ev.mk 0 [some (.ref a), some (.int x), some (.int y), some (.int z)] rfl plX5 (Nat.le_of_ble_eq_true rfl) ?_
  refine r_aload_n 1 dX5_init_0 rfl rfl lo0 ?_
  refine r_objInit 4 dX5_init_1 rfl q895 q89 q90 (by decide) (by decide) ?_
  refine r_aload_n 5 dX5_init_4 rfl rfl lo0 ?_
  refine r_iload_n 6 dX5_init_5 rfl rfl lo1 ?_
  refine r_putF 9 dX5_init_6 rfl g_X5_7_2 cw_2 fw_2_0 fo_2_0 rfl (by first | exact hA | exact hp_up_s) hba so0 (Nat.le_of_ble_eq_true rfl) rfl rfl ?_
  refine r_aload_n 10 dX5_init_9 rfl rfl lo0 ?_
  refine r_iload_n 11 dX5_init_10 rfl rfl lo2 ?_
  refine r_putF 14 dX5_init_11 rfl g_X5_13_2 cw_2 fw_2_1 fo_2_1 rfl (by first | exact hA | exact hp_up_s) hba so1 (Nat.le_of_ble_eq_true rfl) rfl rfl ?_
  refine r_aload_n 15 dX5_init_14 rfl rfl lo0 ?_
  refine r_iload_n 16 dX5_init_15 rfl rfl lo3 ?_
  refine r_putF 19 dX5_init_16 rfl g_X5_16_2 cw_2 fw_2_2 fo_2_2 rfl (by first | exact hA | exact hp_up_s) hba so2 (Nat.le_of_ble_eq_true rfl) rfl rfl ?_
  exact r_vret dX5_init_19 rfl (Nat.le_refl _) (Nat.le_refl _) ⟨rfl, hp_up_s, rfl, fun q hq => (hp_up_n hq).trans ((hp_up_n hq).trans (hp_up_n hq))⟩

