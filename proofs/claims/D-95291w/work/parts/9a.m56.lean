/-! THE CLASS: System.arraycopy of a row, tryRounds, round -/
set_option maxRecDepth 100000
section COPYI
variable {w : WE} {M : MI} {R : Room} {Z : ZT} {k n : Nat} {A : Hp} {pc : Nat} {lo : List (Option Value)} {st : List Value}
theorem r_copyI {t a0 a n0 n1 idx : Nat} {f g : Nat → Int32} {ty : FieldType} {sp dp l : Nat} (nx : Nat) (hd : decode M.2.1 pc = .ok (.invokestatic idx, 3)) (hn : pc + 3 = nx) (hlink : Cond.methodLink M.1.cls idx arraycopyName ∈ lw_all) (ht : (tyA w)[t]? = some (w.2.2.1 t, ty)) (hprim : refKind ty = false) (hA0 : A.1 a0 = some (eI w t n0 f)) (hA1 : A.1 a = some (eI w t n1 g)) (hb : wb w ≤ a) (h4 : sp + l ≤ n0) (h5 : dp + l ≤ n1) (hN0 : n0 < 2 ^ 31) (hN1 : n1 < 2 ^ 31) (hfit : ∀ i, i < l → fits ty (.int (f (sp + i))) = true)
    (hok : decide (1 ≤ R.frames) && decide ((st.map fun v => v.category).sum + (nativeFrameWords "java/lang/System" "arraycopy" 5 + 11) ≤ R.locals) = true) (K : Rn w M R Z k n (hp_up A a (eI w t n1 (va_cpy f g sp dp l))) nx lo st) : Rn w M R Z k n A pc lo (.int (nI l) :: .int (nI dp) :: .ref a :: .int (nI sp) :: .ref a0 :: st) := by
  subst hn
  simp only [Bool.and_eq_true, decide_eq_true_eq] at hok
  intro p e s m args below meth c H locs ls C hR hL hl
  intro T hT X
  have hc0 : H[a0]? = some (vp_cell (w.2.2.1 t) (n0, .inl f)) := hR.at hA0
  have hc1 : H[a]? = some (vp_cell (w.2.2.1 t) (n1, .inl g)) := hR.at hA1
  obtain ⟨-, k0, hk0, cm0, hkk0⟩ := (C.k.K.2 t _ ht).1 n0 (fun j => .int (f j))
  obtain ⟨-, k1, hk1, cm1, hkk1⟩ := (C.k.K.2 t _ ht).1 n1 (fun j => .int (g j))
  have es := nI_clamp (n := sp) (by omega)
  have ed := nI_clamp (n := dp) (by omega)
  have el := nI_clamp (n := l) (by omega)
  have ts := nI_toInt (show sp < 2 ^ 31 by omega)
  have td := nI_toInt (show dp < 2 ^ 31 by omega)
  have tl := nI_toInt (show l < 2 ^ 31 by omega)
  have z0 : (0 : Int32).toInt = 0 := by decide
  have hml : c.maxLocals = ls.size := by rw [C.ml]; exact (lo_size hl).symm
  obtain ⟨vm', X', step⟩ := X.arraycopy C.x C.own (C.ts _ hlink) (C.ts _ q396) (C.ts _ q395) (C.ts _ q74) (src := a0) (dst := a) (cs := vp_cell (w.2.2.1 t) (n0, .inl f)) (cd := vp_cell (w.2.2.1 t) (n1, .inl g)) (srcPos := nI sp) (destPos := nI dp) (n := nI l) (by rw [hT]; exact hc0) (by rw [hT]; exact hc1)
    (fun _ h => by cases h) (fun _ h => by cases h) (fun h => by cases h) (fun h => by cases h) hk0 hk1 hkk0 hkk1 (by simp [hprim]) (fun z => by rw [i_lt, ts, z0] at z; omega) (fun z => by rw [i_lt, td, z0] at z; omega) (fun z => by rw [i_lt, tl, z0] at z; omega)
    (by rw [ts, tl]; show ¬ _ > ((arrV (w.2.2.1 t) n0 (fun j => .int (f j))).slots.size : Int); rw [arrV_size]; omega)
    (by rw [td, tl]; show ¬ _ > ((arrV (w.2.2.1 t) n1 (fun j => .int (g j))).slots.size : Int); rw [arrV_size]; omega)
    (fun vm₁ _ i hi => by
      rw [el] at hi
      have e : (vp_cell (w.2.2.1 t) (n0, .inl f)).slots.getD ((nI sp).toNatClampNeg + i) .null = .int (f (sp + i)) := by
        rw [es]
        show (arrV (w.2.2.1 t) n0 (fun j => .int (f j))).slots.getD _ _ = _
        rw [Array.getD_eq_getD_getElem?, arrV_read _ _ (by omega)]
        rfl
      refine ⟨?_, ?_⟩
      · rw [e]
        exact hfit i hi
      · rw [e]
        exact trivial)
    (g := F0 m pc ls (.int (nI l) :: .int (nI dp) :: .ref a :: .int (nI sp) :: .ref a0 :: st)) rfl (by rw [hml]) (rest := st) rfl (by rw [C.b]; exact hd) hok.1 (by show 2 * 0 + _ + _ ≤ _; omega)
  have e1 : copied (vp_cell (w.2.2.1 t) (n0, .inl f)) (vp_cell (w.2.2.1 t) (n1, .inl g)) (nI sp) (nI dp) (nI l) = vp_cell (w.2.2.1 t) (n1, .inl (va_cpy f g sp dp l)) := by
    have := va_copied (fun z => Value.int z) (w.2.2.1 t) (w.2.2.1 t) (n1 := n1) (dp := dp) f g h4
    show (arrV (w.2.2.1 t) n1 (fun j => .int (g j))).storeRun (nI dp).toNatClampNeg ((arrV (w.2.2.1 t) n0 (fun j => .int (f j))).stretch (nI sp).toNatClampNeg (nI l).toNatClampNeg) = _
    rw [es, ed, el]
    exact this
  rw [e1] at X' step
  have hlt : a < H.size := (Array.getElem?_eq_some_iff.mp hc1).1
  have hheap : ((T.setVm vm').setCell a (vp_cell (w.2.2.1 t) (n1, .inl (va_cpy f g sp dp l)))).heap = H.setIfInBounds a (vp_cell (w.2.2.1 t) (n1, .inl (va_cpy f g sp dp l))) := by rw [← hT]; rfl
  have oq : ∀ q : Nat, q ≠ a → (H.setIfInBounds a (vp_cell (w.2.2.1 t) (n1, .inl (va_cpy f g sp dp l))))[q]? = H[q]? := fun q hq => by simp [Array.getElem?_setIfInBounds, Ne.symm hq]
  have hat : (H.setIfInBounds a (vp_cell (w.2.2.1 t) (n1, .inl (va_cpy f g sp dp l))))[a]? = some (vp_cell (w.2.2.1 t) (n1, .inl (va_cpy f g sp dp l))) := by simp [Array.getElem?_setIfInBounds, hlt]
  obtain ⟨t', a1, b1⟩ := K p e s m args below meth c _ _ ls C (hR.up hb hat (by simp) oq) (fun q hq => by
      rcases List.mem_append.mp hq with h | h
      · exact hL q h
      · obtain ⟨z, -, hz⟩ := List.mem_map.mp h
        rw [← hz]
        exact hb) hl _ hheap X'
  exact ⟨t', step t' a1, b1⟩
end COPYI
theorem rlx_ge {ms : List Mo} {q : Rd} {tk a b h : Nat} {T : Nat → Nat} (hT : ∀ x, h ≤ T x) (x : Nat) : h ≤ rlx ms q tk a b T x := by
  unfold rlx
  split
  · exact hT x
  · rename_i h2
    cases e : stt ms q tk (T a) with
    | none => exact hT x
    | some s =>
      have := stt_le (show T a ≤ 2000 by omega) e
      have := hT a
      dsimp only
      split
      · unfold upN
        split
        · omega
        · exact hT x
      · exact hT x
theorem bfR_ge {ms : List Mo} {herd : Bool} {h : Nat} : ∀ (l : List Rd) (T : Nat → Nat), (∀ x, h ≤ T x) → ∀ x, h ≤ bfR ms herd l T x
  | [], T, hT => hT
  | q :: l, T, hT => bfR_ge l (rlq ms herd q T) (rlx_ge (rlx_ge hT))
theorem bfN_ge {ms : List Mo} {herd : Bool} {rs : List Rd} {h : Nat} : ∀ (j : Nat) (T : Nat → Nat), (∀ x, h ≤ T x) → ∀ x, h ≤ bfN ms herd rs j T x
  | 0, T, hT => hT
  | j + 1, T, hT => bfN_ge j _ (bfR_ge rs T hT)
theorem bf_ge {isl : Nat} {ms : List Mo} {herd : Bool} {rs : List Rd} {f h x : Nat} (hh : h ≤ 2000) : h ≤ bf isl ms herd rs f h x := bfN_ge isl _ (fun y => by
  unfold bf0
  split <;> omega) x
/-- when one is there, as the class has it -/
def cpS (S : ST) (a t x : Nat) : Nat := cp (bfS S false a t x)
theorem cpS_min (S : ST) : ∀ a t x, t ≤ 2000 → cpS S a t x = min (bfS S false a t x) 2001 := fun a t x h => by
  unfold cpS cp
  split <;> omega
/-- over, trying, bestRow -/
def TrB (x : XT) (S : ST) (p : List Nat) (s : Nat × List Nat) : Prop := x.1 10 = nI s.1 ∧ s.1 ≤ 2001 ∧ (∀ k, k < p.length → x.2.1 17 k = nI (p.getD k 0)) ∧ (s.1 ≤ 2000 → ∀ k, k < S.1 - 1 → x.2.1 18 k = nI (s.2.getD k 0))
def SatB (D f : Nat) (p : List Nat) : Prop := D < 64 ∧ ∀ y, y < 6 → (Nat.testBit D y = true ↔ (y = f ∨ y ∈ p))
theorem SatB.add {D f i : Nat} {p : List Nat} (h : SatB D f p) (hi : i < 6) : SatB (D ||| 2 ^ i) f (p ++ [i]) := by
  obtain ⟨h1, h2⟩ := h
  refine ⟨lt6 D h1 i hi, fun y hy => ?_⟩
  rw [tb6 D h1 i hi y hy, Bool.or_eq_true, h2 y hy, decide_eq_true_eq, List.mem_append, List.mem_singleton, or_assoc]
theorem sat1 : ∀ f, f < 6 → ∀ y, y < 6 → (Nat.testBit (2 ^ f) y = true ↔ (y = f ∨ y ∈ ([] : List Nat))) := by decide
theorem shl1 : ∀ f, f < 6 → nI 1 <<< (nI f &&& 31) = nI (2 ^ f) := by decide
theorem pw6s : ∀ f, f < 6 → 2 ^ f < 64 := by decide
theorem trb_s {isl f : Nat} {C : Nat → Nat → Nat → Nat} {j : Nat} {p : List Nat} {a t : Nat} {s : Nat × List Nat} {x : Nat} (h : x = f ∨ x ∈ p) : trb isl f C j p a t s x = s := if_pos h
theorem trb_n {isl f : Nat} {C : Nat → Nat → Nat → Nat} {j : Nat} {p : List Nat} {a t : Nat} {s : Nat × List Nat} {x : Nat} (h : ¬ (x = f ∨ x ∈ p)) (h2 : ¬ C a t x + 1 < s.1) : trb isl f C j p a t s x = s := by
  unfold trb
  rw [if_neg h, if_neg h2]
theorem trb_g {isl f : Nat} {C : Nat → Nat → Nat → Nat} {j : Nat} {p : List Nat} {a t : Nat} {s : Nat × List Nat} {x : Nat} (h : ¬ (x = f ∨ x ∈ p)) (h2 : C a t x + 1 < s.1) : trb isl f C j p a t s x = tr isl f C j (p ++ [x]) x (C a t x + 1) s := by
  unfold trb
  rw [if_neg h, if_pos h2]
theorem apL {p : List Nat} {i : Nat} : (p ++ [i]).length = p.length + 1 := by rw [List.length_append]; rfl
theorem nm2 : ∀ k, k ≤ 6 → (nI k - nI 2).toInt = (k : Int) - 2 := by decide
set_option maxHeartbeats 4000000 in
theorem lp_X0_tryRounds {w : WE} {A0 : Hp} {S : ST} {f j a t D : Nat} {p : List Nat} {r : Nat × List Nat} (IH : ∀ (p : List Nat) (a t D : Nat) (A : Hp) (x : XT) (s : Nat × List Nat), p.length + j = S.1 - 1 → a < S.1 → t ≤ 2000 → SatB D f p → XS w A x S → JX x S false → TrB x S p s → EvP w mX0_tryRounds (5 + j) 0 0 [.ref (wb w), .int (nI p.length), .int (nI a), .int (nI t), .int (nI D)] A none (fun A' => ∃ x' : XT, XS w A' x' S ∧ Fx w A A' ∧ JX x' S false ∧ TrB x' S p (tr S.1 f (cpS S) j p a t s))) (hpj : p.length + (j + 1) = S.1 - 1) (ha : a < S.1) (ht : t ≤ 2000) (hD : SatB D f p) (hl10 : S.2.2.1.length ≤ 10) (hi6 : S.1 ≤ 6) : ∀ (jj i : Nat) (A : Hp) (x : XT) (s : Nat × List Nat), i + jj = S.1 → XS w A x S → Fx w A0 A → JX x S false → TrB x S p s → r = (List.range' i jj).foldl (trb S.1 f (cpS S) j p a t) s → Rn w mX0_tryRounds (rmX (6 + j) 0 0) (ZX w (fun v A' => v = none ∧ (fun A' => ∃ x' : XT, XS w A' x' S ∧ Fx w A0 A' ∧ JX x' S false ∧ TrB x' S p r) A') 0 0) 0 0 A 41 [some (.ref (wb w)), some (.int (nI p.length)), some (.int (nI a)), some (.int (nI t)), some (.int (nI D)), some (.int (nI i))] [] := by
  intro jj
  induction jj with
  | zero =>
    intro i A x s hij hx hF hJ hT hr
    have hr : r = s := hr
    subst hr
    refine r_iload 43 dX0_tryRounds_41 rfl lo5 ?_
    refine r_aload_n 44 dX0_tryRounds_43 rfl rfl lo0 ?_
    refine r_getv 47 dX0_tryRounds_44 rfl g_X0_61_0 hx.t lo0 hx.il ?_
    first | refine r_icmp_geN 122 50 dX0_tryRounds_47 rfl (by decide) (by omega) (by omega) (fun hc47 => ?_) (fun hc47 => ?_) | refine r_icmp_ge 122 50 dX0_tryRounds_47 rfl (by decide) (fun hc47 => ?_) (fun hc47 => ?_)
    · exact r_vret dX0_tryRounds_122 rfl (Nat.le_refl _) (Nat.le_refl _) ⟨rfl, x, hx, hF, hJ, hT⟩
    · exact absurd hc47 (by omega)
  | succ jj ih =>
    intro i A x s hij hx hF hJ hT hr
    have hs1 := hT.2.1
    refine r_iload 43 dX0_tryRounds_41 rfl lo5 ?_
    refine r_aload_n 44 dX0_tryRounds_43 rfl rfl lo0 ?_
    refine r_getv 47 dX0_tryRounds_44 rfl g_X0_61_0 hx.t lo0 hx.il ?_
    first | refine r_icmp_geN 122 50 dX0_tryRounds_47 rfl (by decide) (by omega) (by omega) (fun hc47 => ?_) (fun hc47 => ?_) | refine r_icmp_ge 122 50 dX0_tryRounds_47 rfl (by decide) (fun hc47 => ?_) (fun hc47 => ?_)
    · exact absurd hc47 (by omega)
    · refine r_iload 52 dX0_tryRounds_50 rfl lo4 ?_
      refine r_iload 54 dX0_tryRounds_52 rfl lo5 ?_
      refine r_cS2 57 dX0_tryRounds_54 rfl sS_X0_195 (cOk_of (by show 0 + 1 ≤ 6 + j; omega) (by show 8 + (2 + 11) + (11000 + 64 * (0)) ≤ 11000 + 64 * (6 + j); omega) (Nat.le_refl _) (Nat.le_refl _) (by decide)) ev_X0_isIn ?_
      refine r_if_neB 116 60 dX0_tryRounds_57 rfl (by decide) (fun hc57 => ?_) (fun hc57 => ?_)
      · have hin : i = f ∨ i ∈ p := (hD.2 i (by omega)).mp ((in6 D hD.1 i (by omega)).symm.trans hc57)
        refine r_iinc 119 dX0_tryRounds_116 rfl lo5 inc1 so5 rfl ?_
        refine r_goto 41 dX0_tryRounds_119 (by decide) ?_
        first
          | exact ih (i + 1) A x s (by omega) hx hF hJ hT (by rw [hr, List.range'_succ, List.foldl_cons, trb_s hin])
          | exact ih (i + 1) A (xr x 15 g) s (by omega) hx hF hJ hT (by rw [hr, List.range'_succ, List.foldl_cons, trb_n hin (by omega)])
          | exact ih (i + 1) A x' _ (by omega) hx hF hJ hT (by rw [hr, List.range'_succ, List.foldl_cons, trb_g hin hc80])
      · have hin : ¬ (i = f ∨ i ∈ p) := fun z => by have := (in6 D hD.1 i (by omega)).trans ((hD.2 i (by omega)).mpr z); rw [this] at hc57; cases hc57
        refine r_aload_n 61 dX0_tryRounds_60 rfl rfl lo0 ?_
        refine r_iload_n 62 dX0_tryRounds_61 rfl rfl lo2 ?_
        refine r_iload_n 63 dX0_tryRounds_62 rfl rfl lo3 ?_
        refine r_iconst 64 dX0_tryRounds_63 rfl ic_0 ?_
        refine rx_V3v 67 dX0_tryRounds_64 rfl sV_X0_213_0 hx.t (cOk_of (by show 4 + 1 ≤ 6 + j; omega) (by show 8 + (11 + 11) + (11000 + 64 * (4)) ≤ 11000 + 64 * (6 + j); omega) (Nat.le_refl _) (Nat.le_refl _) (by decide)) (ev_X0_go (herd := false) (f := a) (h := t) hx hJ (by omega) (by omega)) (fun A hP => ?_)
        obtain ⟨g, hx, hF2, hg⟩ := hP
        have hF := hF.tr hF2
        have hJ : JX (xr x 15 g) S false := hJ.xr hl10 (by decide)
        have hT : TrB (xr x 15 g) S p s := hT
        have hgi : (xr x 15 g).2.1 15 i = nI (cpS S a t i) := hg i (by omega)
        have hcl : cpS S a t i ≤ 2001 := cp_le
        refine r_aload_n 68 dX0_tryRounds_67 rfl rfl lo0 ?_
        refine r_get 71 dX0_tryRounds_68 rfl g_X0_40_0 hx.t lo6 ?_
        refine r_iload 73 dX0_tryRounds_71 rfl lo5 ?_
        refine r_ialdv 74 dX0_tryRounds_73 rfl hx.a15 _ rfl hgi (by omega) (by decide) ?_
        refine r_iconst 75 dX0_tryRounds_74 rfl ic_1 ?_
        first | refine r_iaddN 76 dX0_tryRounds_75 rfl ?_ | refine r_iadd 76 dX0_tryRounds_75 rfl ?_
        refine r_aload_n 77 dX0_tryRounds_76 rfl rfl lo0 ?_
        refine r_getv 80 dX0_tryRounds_77 rfl g_X0_224_0 hx.t lo10 hT.1 ?_
        first | refine r_icmp_geN 116 83 dX0_tryRounds_80 rfl (by decide) (by omega) (by omega) (fun hc80 => ?_) (fun hc80 => ?_) | refine r_icmp_ge 116 83 dX0_tryRounds_80 rfl (by decide) (fun hc80 => ?_) (fun hc80 => ?_)
        · refine r_iinc 119 dX0_tryRounds_116 rfl lo5 inc1 so5 rfl ?_
          refine r_goto 41 dX0_tryRounds_119 (by decide) ?_
          first
            | exact ih (i + 1) A x s (by omega) hx hF hJ hT (by rw [hr, List.range'_succ, List.foldl_cons, trb_s hin])
            | exact ih (i + 1) A (xr x 15 g) s (by omega) hx hF hJ hT (by rw [hr, List.range'_succ, List.foldl_cons, trb_n hin (by omega)])
            | exact ih (i + 1) A x' _ (by omega) hx hF hJ hT (by rw [hr, List.range'_succ, List.foldl_cons, trb_g hin hc80])
        · refine r_aload_n 84 dX0_tryRounds_83 rfl rfl lo0 ?_
          refine r_get 87 dX0_tryRounds_84 rfl g_X0_46_0 hx.t lo8 ?_
          refine r_iload_n 88 dX0_tryRounds_87 rfl rfl lo1 ?_
          refine r_iload 90 dX0_tryRounds_88 rfl lo5 ?_
          refine rx_iast (kk := 17) (N := 6) 91 dX0_tryRounds_90 rfl hx hF (Or.inr (by decide)) _ rfl rfl (by omega) (by decide) (fun A hx hF => ?_)
          refine r_aload_n 92 dX0_tryRounds_91 rfl rfl lo0 ?_
          refine r_iload_n 93 dX0_tryRounds_92 rfl rfl lo1 ?_
          refine r_iconst 94 dX0_tryRounds_93 rfl ic_1 ?_
          first | refine r_iaddN 95 dX0_tryRounds_94 rfl ?_ | refine r_iadd 95 dX0_tryRounds_94 rfl ?_
          refine r_iload 97 dX0_tryRounds_95 rfl lo5 ?_
          refine r_aload_n 98 dX0_tryRounds_97 rfl rfl lo0 ?_
          refine r_get 101 dX0_tryRounds_98 rfl g_X0_40_0 hx.t lo6 ?_
          refine r_iload 103 dX0_tryRounds_101 rfl lo5 ?_
          refine r_ialdv 104 dX0_tryRounds_103 rfl hx.a15 _ rfl hgi (by omega) (by decide) ?_
          refine r_iconst 105 dX0_tryRounds_104 rfl ic_1 ?_
          first | refine r_iaddN 106 dX0_tryRounds_105 rfl ?_ | refine r_iadd 106 dX0_tryRounds_105 rfl ?_
          refine r_iload 108 dX0_tryRounds_106 rfl lo4 ?_
          refine r_iconst 109 dX0_tryRounds_108 rfl ic_1 ?_
          refine r_iload 111 dX0_tryRounds_109 rfl lo5 ?_
          refine r_ishl 112 dX0_tryRounds_111 rfl ?_
          refine r_ior 113 dX0_tryRounds_112 rfl ?_
          rw [or6 D hD.1 i (by omega)]
          have hJ : JX (((xr x 15 g).1, va_up (xr x 15 g).2.1 17 (upd ((xr x 15 g).2.1 17) p.length (nI i)), (xr x 15 g).2.2)) S false := hJ.xr hl10 (by decide)
          have hT2 : TrB (((xr x 15 g).1, va_up (xr x 15 g).2.1 17 (upd ((xr x 15 g).2.1 17) p.length (nI i)), (xr x 15 g).2.2)) S (p ++ [i]) s := ⟨hT.1, hT.2.1, fun k hk => by
            rw [apL] at hk
            show upd ((xr x 15 g).2.1 17) p.length (nI i) k = _
            by_cases e : k = p.length
            · subst e
              rw [upd_s, getD_app2]
            · rw [upd_n e, getD_app1 (by omega)]
              exact hT.2.2.1 k (by omega), hT.2.2.2⟩
          have hE := IH (p ++ [i]) i (cpS S a t i + 1) (D ||| 2 ^ i) A _ s (by rw [apL]; omega) (by omega) (by omega) (hD.add (by omega)) hx hJ hT2
          rw [apL] at hE
          refine rx_V4v 116 dX0_tryRounds_113 rfl sV_X0_233_0 hx.t (cOk_of (by show 5 + j + 1 ≤ 6 + j; omega) (by show 8 + (6 + 11) + (11000 + 64 * (5 + j)) ≤ 11000 + 64 * (6 + j); omega) (Nat.le_refl _) (Nat.le_refl _) (by decide)) hE (fun A hP => ?_)
          obtain ⟨x', hx, hF3, hJ, hT⟩ := hP
          have hF := hF.tr hF3
          have hT : TrB x' S p (tr S.1 f (cpS S) j (p ++ [i]) i (cpS S a t i + 1) s) := ⟨hT.1, hT.2.1, fun k hk => by rw [hT.2.2.1 k (by rw [apL]; omega), getD_app1 hk], hT.2.2.2⟩
          refine r_iinc 119 dX0_tryRounds_116 rfl lo5 inc1 so5 rfl ?_
          refine r_goto 41 dX0_tryRounds_119 (by decide) ?_
          first
            | exact ih (i + 1) A x s (by omega) hx hF hJ hT (by rw [hr, List.range'_succ, List.foldl_cons, trb_s hin])
            | exact ih (i + 1) A (xr x 15 g) s (by omega) hx hF hJ hT (by rw [hr, List.range'_succ, List.foldl_cons, trb_n hin (by omega)])
            | exact ih (i + 1) A x' _ (by omega) hx hF hJ hT (by rw [hr, List.range'_succ, List.foldl_cons, trb_g hin hc80])

set_option maxHeartbeats 4000000 in
theorem ev_X0_tryRounds {w : WE} {S : ST} {f : Nat} : ∀ (j : Nat) (p : List Nat) (a t D : Nat) (A : Hp) (x : XT) (s : Nat × List Nat), p.length + j = S.1 - 1 → a < S.1 → t ≤ 2000 → SatB D f p → XS w A x S → JX x S false → TrB x S p s → EvP w mX0_tryRounds (5 + j) 0 0 [.ref (wb w), .int (nI p.length), .int (nI a), .int (nI t), .int (nI D)] A none (fun A' => ∃ x' : XT, XS w A' x' S ∧ Fx w A A' ∧ JX x' S false ∧ TrB x' S p (tr S.1 f (cpS S) j p a t s)) := by
  intro j
  induction j with
  | zero =>
    intro p a t D A x s hpj ha ht hD hx hJ hT
    have hi6 := hx.le
    have hl10 := hx.ok.2.2.2.1
    have hs1 := hT.2.1
    refine Ev.mk 1 [some (.ref (wb w)), some (.int (nI p.length)), some (.int (nI a)), some (.int (nI t)), some (.int (nI D)), none] rfl plX0 (Nat.le_of_ble_eq_true rfl) ?_
    refine r_iload_n 1 dX0_tryRounds_0 rfl rfl lo1 ?_
    refine r_aload_n 2 dX0_tryRounds_1 rfl rfl lo0 ?_
    refine r_getv 5 dX0_tryRounds_2 rfl g_X0_61_0 hx.t lo0 hx.il ?_
    refine r_iconst 6 dX0_tryRounds_5 rfl ic_1 ?_
    first | refine r_isubN 7 dX0_tryRounds_6 rfl (by omega) ?_ | refine r_isub 7 dX0_tryRounds_6 rfl ?_
    first | refine r_icmp_neN 38 10 dX0_tryRounds_7 rfl (by decide) (by omega) (by omega) (fun hc7 => ?_) (fun hc7 => ?_) | refine r_icmp_ne 38 10 dX0_tryRounds_7 rfl (by decide) (fun hc7 => ?_) (fun hc7 => ?_)
    · exact absurd (show p.length = S.1 - 1 by omega) hc7
    · refine r_iload_n 11 dX0_tryRounds_10 rfl rfl lo3 ?_
      refine r_aload_n 12 dX0_tryRounds_11 rfl rfl lo0 ?_
      refine r_getv 15 dX0_tryRounds_12 rfl g_X0_224_0 hx.t lo10 hT.1 ?_
      first | refine r_icmp_geN 37 18 dX0_tryRounds_15 rfl (by decide) (by omega) (by omega) (fun hc15 => ?_) (fun hc15 => ?_) | refine r_icmp_ge 37 18 dX0_tryRounds_15 rfl (by decide) (fun hc15 => ?_) (fun hc15 => ?_)
      · exact r_vret dX0_tryRounds_37 rfl (Nat.le_refl _) (Nat.le_refl _) (by
          first
            | exact ⟨rfl, x, hx, Fx.rf, hJ, by rw [show tr S.1 f (cpS S) 0 p a t s = s from if_neg (by omega)]; exact hT⟩
            | exact ⟨rfl, _, hx, hF.tr (Fx.up (Or.inl (by have : wb w + 21 = mb w := rfl; omega))), (show JX (va_up x.1 10 (nI t), x.2) S false from hJ).xr hl10 (by decide), by rw [show tr S.1 f (cpS S) 0 p a t s = (t, p) from if_pos hc15]; exact ⟨rfl, by show t ≤ 2001; omega, hT.2.2.1, fun _ k hk => (if_pos ⟨Nat.zero_le _, by omega⟩).trans (by rw [Nat.zero_add, Nat.sub_zero]; exact hT.2.2.1 k (by omega))⟩⟩)
      · refine r_aload_n 19 dX0_tryRounds_18 rfl rfl lo0 ?_
        refine r_iload_n 20 dX0_tryRounds_19 rfl rfl lo3 ?_
        refine rx_over 23 dX0_tryRounds_20 rfl hx Fx.rf g_X0_224_0 (fun A1 hx hF => ?_)
        refine r_aload_n 24 dX0_tryRounds_23 rfl rfl lo0 ?_
        refine r_get 27 dX0_tryRounds_24 rfl g_X0_46_0 hx.t lo8 ?_
        refine r_iconst 28 dX0_tryRounds_27 rfl ic_0 ?_
        refine r_aload_n 29 dX0_tryRounds_28 rfl rfl lo0 ?_
        refine r_get 32 dX0_tryRounds_29 rfl g_X0_49_0 hx.t lo9 ?_
        refine r_iconst 33 dX0_tryRounds_32 rfl ic_0 ?_
        refine r_iload_n 34 dX0_tryRounds_33 rfl rfl lo1 ?_
        refine r_copyI (sp := 0) (dp := 0) (ty := .int) 37 dX0_tryRounds_34 rfl q535 rfl rfl hx.a17 hx.a18 (by omega) (by omega) (by omega) (by decide) (by decide) (fun _ _ => rfl) (by rfl) ?_
        have hx := hx.arr (k := 18) (Or.inr (by decide)) (va_cpy (x.2.1 17) (x.2.1 18) 0 0 p.length)
        exact r_vret dX0_tryRounds_37 rfl (Nat.le_refl _) (Nat.le_refl _) (by
          first
            | exact ⟨rfl, x, hx, Fx.rf, hJ, by rw [show tr S.1 f (cpS S) 0 p a t s = s from if_neg (by omega)]; exact hT⟩
            | exact ⟨rfl, _, hx, hF.tr (Fx.up (Or.inl (by have : wb w + 21 = mb w := rfl; omega))), (show JX (va_up x.1 10 (nI t), x.2) S false from hJ).xr hl10 (by decide), by rw [show tr S.1 f (cpS S) 0 p a t s = (t, p) from if_pos hc15]; exact ⟨rfl, by show t ≤ 2001; omega, hT.2.2.1, fun _ k hk => (if_pos ⟨Nat.zero_le _, by omega⟩).trans (by rw [Nat.zero_add, Nat.sub_zero]; exact hT.2.2.1 k (by omega))⟩⟩)
  | succ j IH =>
    intro p a t D A x s hpj ha ht hD hx hJ hT
    have hi6 := hx.le
    have hl10 := hx.ok.2.2.2.1
    have ed : 5 + (j + 1) = 6 + j := by omega
    rw [ed, tr_s]
    refine Ev.mk 1 [some (.ref (wb w)), some (.int (nI p.length)), some (.int (nI a)), some (.int (nI t)), some (.int (nI D)), none] rfl plX0 (Nat.le_of_ble_eq_true rfl) ?_
    refine r_iload_n 1 dX0_tryRounds_0 rfl rfl lo1 ?_
    refine r_aload_n 2 dX0_tryRounds_1 rfl rfl lo0 ?_
    refine r_getv 5 dX0_tryRounds_2 rfl g_X0_61_0 hx.t lo0 hx.il ?_
    refine r_iconst 6 dX0_tryRounds_5 rfl ic_1 ?_
    first | refine r_isubN 7 dX0_tryRounds_6 rfl (by omega) ?_ | refine r_isub 7 dX0_tryRounds_6 rfl ?_
    first | refine r_icmp_neN 38 10 dX0_tryRounds_7 rfl (by decide) (by omega) (by omega) (fun hc7 => ?_) (fun hc7 => ?_) | refine r_icmp_ne 38 10 dX0_tryRounds_7 rfl (by decide) (fun hc7 => ?_) (fun hc7 => ?_)
    · refine r_iconst 39 dX0_tryRounds_38 rfl ic_0 ?_
      refine r_istore 41 dX0_tryRounds_39 rfl so5 rfl ?_
      exact lp_X0_tryRounds IH hpj ha ht hD hl10 hi6 S.1 0 A x s (by omega) hx Fx.rf hJ hT rfl
    · exact absurd hc7 (by omega)

set_option maxHeartbeats 4000000 in
theorem ev_X0_round {w : WE} {A : Hp} {x : XT} {S : ST} {f hour q : Int32} (hx : XS w A x S) : EvP w mX0_round 11 0 0 [.ref (wb w), .int f, .int hour, .int q] A (some (.int (sp_round S f hour q))) (fun A' => ∃ x' : XT, XS w A' x' S ∧ Fx w A A') := by
  refine Ev.mk 0 [some (.ref (wb w)), some (.int f), some (.int hour), some (.int q)] rfl plX0 (Nat.le_of_ble_eq_true rfl) ?_
  have hi6 := hx.le
  refine r_aload_n 1 dX0_round_0 rfl rfl lo0 ?_
  refine r_iload_n 2 dX0_round_1 rfl rfl lo1 ?_
  refine r_cV1 5 dX0_round_2 rfl sV_X0_142_0 hx.t (by rfl) (ev_X0_noIsland hx) ?_
  refine r_if_neB 26 8 dX0_round_5 rfl (by decide) (fun hc5 => ?_) (fun hc5 => ?_)
  · refine r_iconst 27 dX0_round_26 rfl ic_m1 ?_
    exact r_iret dX0_round_27 rfl (Nat.le_refl _) (Nat.le_refl _) ⟨rq (by unfold sp_round; rw [if_pos (by first | exact Or.inl (by rw [nb_f hc5]; decide) | exact Or.inr (by rw [hc23]; decide))]), x, hx, Fx.rf⟩
  · refine r_iload_n 9 dX0_round_8 rfl rfl lo3 ?_
    refine r_i2l 10 dX0_round_9 rfl rfl ?_
    refine r_ldc2 13 dX0_round_10 rfl q530 ?_
    refine r_aload_n 14 dX0_round_13 rfl rfl lo0 ?_
    refine r_getv 17 dX0_round_14 rfl g_X0_61_0 hx.t lo0 hx.il ?_
    refine r_iconst 18 dX0_round_17 rfl ic_2 ?_
    refine r_isub 19 dX0_round_18 rfl ?_
    refine r_i2l 20 dX0_round_19 rfl rfl ?_
    refine r_cS3 23 dX0_round_20 rfl sS_X0_11 (by rfl) (ev_X0_in q.toInt (-1) ((S.1 : Int) - 2) (Int32.toInt_toInt64 _) (by decide) (by rw [Int32.toInt_toInt64]; exact nm2 S.1 hi6)) ?_
    refine r_if_neB 28 26 dX0_round_23 rfl (by decide) (fun hc23 => ?_) (fun hc23 => ?_)
    · refine r_iload_n 29 dX0_round_28 rfl rfl lo2 ?_
      refine r_cS1 32 dX0_round_29 rfl sS_X0_125 (by rfl) ev_X0_isHour ?_
      refine r_if_neB 38 35 dX0_round_32 rfl (by decide) (fun hc32 => ?_) (fun hc32 => ?_)
      · replace hc5 := nb_t hc5
        obtain ⟨f, hf0, rfl⟩ := isI_nat hc5 hi6
        obtain ⟨h, hh, rfl⟩ := hr_ok hc32
        have hs2 := (hx.ok.1.pos (by omega)).1
        have hqb := btw_t.mp hc23
        have esp : sp_round S (nI f) (nI h) q = if (rdS S f h).1 = 9999 then -9 else if q.toInt = -1 then nI (rdS S f h).1 else nI ((rdS S f h).2 q.toInt.toNat) := by
          unfold sp_round
          rw [if_neg (fun z => z.elim (fun a => a hc5) (fun a => a hc23)), if_neg (fun z => z hc32), nI_nat (j := f) (by omega), nI_nat (j := h) (by omega)]
        rw [esp]
        refine r_aload_n 39 dX0_round_38 rfl rfl lo0 ?_
        refine r_iconst 40 dX0_round_39 rfl ic_0 ?_
        refine rx_V1v 43 dX0_round_40 rfl sV_X0_209_0 hx.t (by rfl) (ev_X0_layAll (herd := false) hx) (fun A hP => ?_)
        obtain ⟨x1, hx, hF, e1, e2, e3, hlv, hJ⟩ := hP
        refine r_aload_n 44 dX0_round_43 rfl rfl lo0 ?_
        refine r_sipush 47 dX0_round_44 rfl si_2001 ?_
        refine rx_over 50 dX0_round_47 rfl hx hF g_X0_224_0 (fun A hx hF => ?_)
        have hJ : JX (va_up x1.1 10 (nI 2001), x1.2) S false := hJ
        have hT0 : TrB (va_up x1.1 10 (nI 2001), x1.2) S [] (2001, []) := ⟨rfl, Nat.le_refl _, fun k hk => absurd hk (Nat.not_lt_zero _), fun z => absurd z (by decide)⟩
        refine r_aload_n 51 dX0_round_50 rfl rfl lo0 ?_
        refine r_iconst 52 dX0_round_51 rfl ic_0 ?_
        refine r_iload_n 53 dX0_round_52 rfl rfl lo1 ?_
        refine r_iload_n 54 dX0_round_53 rfl rfl lo2 ?_
        refine r_iconst 55 dX0_round_54 rfl ic_1 ?_
        refine r_iload_n 56 dX0_round_55 rfl rfl lo1 ?_
        refine r_ishl 57 dX0_round_56 rfl ?_
        rw [shl1 f (by omega)]
        refine rx_V4v 60 dX0_round_57 rfl sV_X0_233_0 hx.t (cOk_of (by show 5 + (S.1 - 1) + 1 ≤ 11; omega) (by show 8 + (6 + 11) + (11000 + 64 * (5 + (S.1 - 1))) ≤ 11000 + 64 * (11); omega) (Nat.le_refl _) (Nat.le_refl _) (by decide)) (ev_X0_tryRounds (f := f) (S.1 - 1) [] f h (2 ^ f) A _ (2001, []) (by show 0 + (S.1 - 1) = _; omega) hf0 (by omega) ⟨pw6s f (by omega), sat1 f (by omega)⟩ hx hJ hT0) (fun A hP => ?_)
        obtain ⟨x2, hx, hF2, hJ, hT⟩ := hP
        have hF := hF.tr hF2
        have hsam := tr_rdS (S := S) (f := f) (h := h) (C := cpS S) (b0 := []) hs2 hi6 hf0 (by omega) (cpS_min S) (fun a t x ht => bf_ge ht)
        generalize tr S.1 f (cpS S) (S.1 - 1) [] f h (2001, []) = v at hT hsam
        have hv := hT.2.1
        have hbr : 0 ≤ q.toInt → v.1 ≤ 2000 → x2.2.1 18 q.toInt.toNat = nI (v.2.getD q.toInt.toNat 0) := fun h0 h1 => hT.2.2.2 h1 _ (by omega)
        refine r_aload_n 61 dX0_round_60 rfl rfl lo0 ?_
        refine r_getv 64 dX0_round_61 rfl g_X0_224_0 hx.t lo10 hT.1 ?_
        refine r_sipush 67 dX0_round_64 rfl si_2001 ?_
        first | refine r_icmp_neN 75 70 dX0_round_67 rfl (by decide) (by omega) (by omega) (fun hc67 => ?_) (fun hc67 => ?_) | refine r_icmp_ne 75 70 dX0_round_67 rfl (by decide) (fun hc67 => ?_) (fun hc67 => ?_)
        · refine r_iload_n 76 dX0_round_75 rfl rfl lo3 ?_
          refine r_if_ge 86 79 dX0_round_76 rfl (by decide) (fun hc76 => ?_) (fun hc76 => ?_)
          · refine r_aload_n 87 dX0_round_86 rfl rfl lo0 ?_
            refine r_get 90 dX0_round_87 rfl g_X0_49_0 hx.t lo9 ?_
            refine r_iload_n 91 dX0_round_90 rfl rfl lo3 ?_
            obtain ⟨u, -, hu, rfl⟩ := btw_nat (x := q) (a := 0) (b := (S.1 : Int) - 2) (btw_t.mpr ⟨i_le.mp hc76, hqb.2⟩) (by decide) (by omega)
            refine r_iald 92 dX0_round_91 rfl hx.a18 u rfl (by omega) (by decide) ?_
            exact r_iret dX0_round_92 rfl (Nat.le_refl _) (Nat.le_refl _) ⟨rq (by
              rcases hsam with ⟨s1, s2⟩ | ⟨s1, s2, s3⟩
              · first
                  | exact absurd s2 hc67
                  | rw [if_pos s1]
              · have hne : ¬ (rdS S f h).1 = 9999 := by omega
                rw [if_neg hne]
                first
                  | exact absurd hc67 (by omega)
                  | (have hq1 : ¬ (0 : Int32).toInt ≤ q.toInt := fun z => hc76 (i_le.mpr z)
                     have z0 : (0 : Int32).toInt = 0 := by decide
                     rw [if_pos (by omega), s1])
                  | (have hq2 := nI_nat (j := u) (by omega)
                     have hq3 := nI_toInt (show u < 2 ^ 31 by omega)
                     rw [if_neg (by omega), hq2, hT.2.2.2 s2 u (by omega), s3 u (by omega)])), _, hx, hF⟩
          · refine r_aload_n 80 dX0_round_79 rfl rfl lo0 ?_
            refine r_getv 83 dX0_round_80 rfl g_X0_224_0 hx.t lo10 hT.1 ?_
            refine r_goto 92 dX0_round_83 (by decide) ?_
            exact r_iret dX0_round_92 rfl (Nat.le_refl _) (Nat.le_refl _) ⟨rq (by
              rcases hsam with ⟨s1, s2⟩ | ⟨s1, s2, s3⟩
              · first
                  | exact absurd s2 hc67
                  | rw [if_pos s1]
              · have hne : ¬ (rdS S f h).1 = 9999 := by omega
                rw [if_neg hne]
                first
                  | exact absurd hc67 (by omega)
                  | (have hq1 : ¬ (0 : Int32).toInt ≤ q.toInt := fun z => hc76 (i_le.mpr z)
                     have z0 : (0 : Int32).toInt = 0 := by decide
                     rw [if_pos (by omega), s1])
                  | (have hq2 := nI_nat (j := u) (by omega)
                     have hq3 := nI_toInt (show u < 2 ^ 31 by omega)
                     rw [if_neg (by omega), hq2, hT.2.2.2 s2 u (by omega), s3 u (by omega)])), _, hx, hF⟩
        · refine r_bipush 72 dX0_round_70 rfl bi_m9 ?_
          refine r_goto 92 dX0_round_72 (by decide) ?_
          exact r_iret dX0_round_92 rfl (Nat.le_refl _) (Nat.le_refl _) ⟨rq (by
            rcases hsam with ⟨s1, s2⟩ | ⟨s1, s2, s3⟩
            · first
                | exact absurd s2 hc67
                | rw [if_pos s1]
            · have hne : ¬ (rdS S f h).1 = 9999 := by omega
              rw [if_neg hne]
              first
                | exact absurd hc67 (by omega)
                | (have hq1 : ¬ (0 : Int32).toInt ≤ q.toInt := fun z => hc76 (i_le.mpr z)
                   have z0 : (0 : Int32).toInt = 0 := by decide
                   rw [if_pos (by omega), s1])
                | (have hq2 := nI_nat (j := u) (by omega)
                   have hq3 := nI_toInt (show u < 2 ^ 31 by omega)
                   rw [if_neg (by omega), hq2, hT.2.2.2 s2 u (by omega), s3 u (by omega)])), _, hx, hF⟩
      · refine r_bipush 37 dX0_round_35 rfl bi_m2 ?_
        exact r_iret dX0_round_37 rfl (Nat.le_refl _) (Nat.le_refl _) ⟨rq (by unfold sp_round; rw [if_neg (fun h => h.elim (fun a => a (nb_t hc5)) (fun a => a hc23)), if_pos (by rw [hc32]; decide)]), x, hx, Fx.rf⟩
    · refine r_iconst 27 dX0_round_26 rfl ic_m1 ?_
      exact r_iret dX0_round_27 rfl (Nat.le_refl _) (Nat.le_refl _) ⟨rq (by unfold sp_round; rw [if_pos (by first | exact Or.inl (by rw [nb_f hc5]; decide) | exact Or.inr (by rw [hc23]; decide))]), x, hx, Fx.rf⟩

