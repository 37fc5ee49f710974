/-! THE CLASS: ways, mends, what a mend saves -/
set_option maxRecDepth 100000
abbrev mdv (q : Rd) (v : Nat) : Rd := (q.1, q.2.1, q.2.2.1, q.2.2.2.1, q.2.2.2.2.1, v)
theorem rd_ne {A : Hp} {a1 a2 b i j : Nat} {p q : Rd} (h1 : A.1 a1 = some (rdE b i p)) (h2 : A.1 a2 = some (rdE b j q)) (hi : i < 2 ^ 31) (hj : j < 2 ^ 31) (h : i ≠ j) : a1 ≠ a2 := fun e => by
  rw [e, h2] at h1
  have z : nI j = nI i := congrArg (fun e : Option va_E => match e with
    | some (.inr (_, .int k :: _)) => k
    | _ => 0) h1
  exact h ((nI_eq hi hj).mp z.symm)
theorem XS.rdx {w : WE} {A : Hp} {x : XT} {S : ST} {j : Nat} {q : Rd} (h : XS w A x S) (hq : S.2.2.1[j]? = some q) (v : Nat) (hok : StOk (sR S (S.2.2.1.set j (mdv q v)))) : XS w (hp_up A (x.2.2.2.2.1 j) (rdE (wb w) j (mdv q v))) x (sR S (S.2.2.1.set j (mdv q v))) := by
  have hj := (List.getElem?_eq_some_iff.mp hq).1
  have hl10 := h.ok.2.2.2.1
  have hk := (h.rok hq).1
  obtain ⟨hd, hA⟩ := h.rd j q hq
  obtain ⟨⟨a1, a2, a3⟩, ⟨b1, b2⟩, ⟨c1, c2⟩, d, e, ⟨f1, f2, f3⟩, g⟩ := h
  have hb : wb w + 21 = mb w := rfl
  have hfx : ∀ k, k ≤ 20 → Kp A (hp_up A (x.2.2.2.2.1 j) (rdE (wb w) j (mdv q v))) (wb w + k) := fun k hk => kp_up (by omega)
  have he : ∀ {a e n : Nat} {ad : Nat → Nat}, LsR w A a e n ad → Kp A (hp_up A (x.2.2.2.2.1 j) (rdE (wb w) j (mdv q v))) e := fun h => by
    obtain ⟨_, _, _, _, z, _⟩ := h
    exact kp_up (Ne.symm (ne_io hA z))
  refine ⟨⟨hfx 0 (by decide) _ a1, fun k hk => hfx k (by rcases hk with h | h <;> omega) _ (a2 k hk), hfx 4 (by decide) _ a3⟩, ⟨b1.keep (hfx 1 (by decide)) (he b1), fun i p hp => ⟨(b2 i p hp).1, kp_up (ne_oo (b2 i p hp).2 hA (by omega)) _ (b2 i p hp).2⟩⟩, ⟨?_, fun i p hp => ?_⟩, ⟨hfx 20 (by decide) _ d.1, fun k hk4 => ?_, d.2.2⟩, e, ⟨kp_up (by omega) _ f1, f2, f3⟩, hok⟩
  · show LsR w _ _ _ (S.2.2.1.set j (mdv q v)).length _
    rw [List.length_set]
    exact c1.keep (hfx 2 (by decide)) (he c1)
  · replace hp : (S.2.2.1.set j (mdv q v))[i]? = some p := hp
    rw [List.getElem?_set] at hp
    by_cases ej : j = i
    · subst ej
      rw [if_pos rfl, if_pos hj] at hp
      cases hp
      exact ⟨hd, hp_up_s⟩
    · rw [if_neg ej] at hp
      have hi := (List.getElem?_eq_some_iff.mp hp).1
      exact ⟨(c2 i p hp).1, kp_up (rd_ne (c2 i p hp).2 hA (by omega) (by omega) (Ne.symm ej)) _ (c2 i p hp).2⟩
  · rcases d.2.1 k hk4 with h | ⟨q', p, f, u1, u2, u3, u4, u5, u6, u7, u8, u9⟩
    · exact Or.inl h
    · exact Or.inr ⟨q', p, f, u1, u2, u3, u4, u5, u6, kp_up (ne_oo u7 hA (by omega)) _ u7, kp_up (Ne.symm (ne_io hA u8)) _ u8, u9⟩
theorem cwR {kd : Nat} (hk : kd ≤ 2) : ClsW (3 + kd) := by
  match kd, hk with
  | 0, _ => exact cw_3
  | 1, _ => exact cw_4
  | 2, _ => exact cw_5
theorem fwR5 {kd : Nat} (hk : kd ≤ 2) : FldW (3 + kd) 5 false .int := by
  match kd, hk with
  | 0, _ => exact fw_3_5
  | 1, _ => exact fw_4_5
  | 2, _ => exact fw_5_5
section RP
variable {w : WE} {M : MI} {R : Room} {Z : ZT} {k n : Nat} {A : Hp} {pc : Nat} {lo : List (Option Value)} {st : List Value}
theorem rR_put {idx a b kk v : Nat} {q : Rd} (nx : Nat) (hd : decode M.2.1 pc = .ok (.putfield idx, 3)) (hn : pc + 3 = nx) (S : SiteG M.1.cls idx (3 + q.1) 5) (hk : q.1 ≤ 2) (hA : A.1 a = some (rdE b kk q)) (hb : wb w ≤ a) (K : Rn w M R Z k n (hp_up A a (rdE b kk (mdv q v))) nx lo st) : Rn w M R Z k n A pc lo (.int (nI v) :: .ref a :: st) :=
  r_put nx hd hn S (cwR hk) (fwR5 hk) hA hb so5 (Nat.le_of_ble_eq_true rfl) rfl rfl K
end RP
theorem StOk.mend {S : ST} {j : Nat} {q : Rd} (h : StOk S) (hq : S.2.2.1[j]? = some q) {v : Nat} (hv : v ≤ 10) (h0 : q.1 ≠ 0 ∨ v = q.2.2.2.2.2) : StOk (sR S (S.2.2.1.set j (mdv q v))) := by
  obtain ⟨⟨s1, s2⟩, l1, l2, l3, l4⟩ := h
  have hm := List.mem_of_getElem? hq
  refine ⟨⟨s1.imp (fun h => ⟨h.1, h.2.1, by dsimp only; rw [h.2.2]; rfl⟩) id, fun p hp => ?_⟩, l1, l2, by dsimp only; rw [List.length_set]; exact l3, fun p hp => ?_⟩
  · rcases List.mem_or_eq_of_mem_set hp with h | h
    · exact s2 p h
    · subst h
      refine ⟨hv, fun z => ?_⟩
      rcases h0 with h0 | h0
      · exact absurd z h0
      · exact h0.trans ((s2 q hm).2 z)
  · rcases List.mem_or_eq_of_mem_set hp with h | h
    · exact l4 p h
    · subst h
      obtain ⟨o1, o2, o3, o4, o5, o6, o7, o8⟩ := l4 q hm
      exact ⟨o1, o2, o3, o4, o5, o6, o7, hv⟩
theorem set_back {l : List Rd} {j : Nat} {q p : Rd} (h : l[j]? = some q) : (l.set j p).set j q = l := by
  apply List.ext_getElem?
  intro i
  have hj := (List.getElem?_eq_some_iff.mp h).1
  rw [List.getElem?_set, List.getElem?_set]
  by_cases e : j = i
  · subst e
    rw [if_pos rfl, List.length_set, if_pos hj, h]
  · rw [if_neg e, if_neg e]
theorem ec_some {o : Option Nat} {v : Nat} (h : ec o = v) (hv : v ≤ 2000) : o = some v := by
  cases o with
  | none => exact absurd h (by show ¬ 2001 = v; omega)
  | some s => exact congrArg some h
section WX
variable {ms : List Mo} {herd : Bool} {rs : List Rd} {f x : Nat} {T : Nat → Nat} {q : Rd}
theorem may_j (hj : q.2.1 = x ∨ q.2.2.1 = x) : mayB ms herd T x q = decide (mayD ms herd T x q (othr q x)) := by
  by_cases h1 : q.2.1 = x
  · rw [may_1 h1]
    unfold othr
    rw [if_pos h1]
  · rw [may_2 h1 (hj.resolve_left h1)]
    unfold othr
    rw [if_neg h1]
theorem may_nj (hj : ¬ (q.2.1 = x ∨ q.2.2.1 = x)) : mayB ms herd T x q = false := may_n (fun z => hj (Or.inl z)) (fun z => hj (Or.inr z))
theorem may_cp (h : T x ≤ 2000) : mayB ms herd (fun z => cp (T z)) x q = mayB ms herd T x q := by
  by_cases hj : q.2.1 = x ∨ q.2.2.1 = x
  · rw [may_j hj, may_j hj]
    have e : cp (T x) = T x := cp_s (by omega)
    have e2 : ∀ y, cp (T y) ≤ T x - tkO herd q ↔ T y ≤ T x - tkO herd q := fun y => cp_b (by omega)
    apply decide_eq_decide.mpr
    unfold mayD
    dsimp only
    rw [e, e2]
  · rw [may_nj hj, may_nj hj]
theorem rdt_cp (h : T x ≤ 2000) : ∀ (j i : Nat) (b : Option Nat), rdt ms herd rs (fun z => cp (T z)) x j i b = rdt ms herd rs T x j i b
  | 0, i, b => rfl
  | j + 1, i, b => by
    unfold rdt
    rw [rdt_cp h j]
    congr 1
    split
    · rfl
    · rw [may_cp h]
end WX
set_option maxHeartbeats 4000000 in
theorem lp_X0_cameBy {w : WE} {A : Hp} {x : XT} {S : ST} {herd : Bool} {T : Nat → Nat} {z : Nat} (hx : XS w A x S) (hJ : JX x S herd) (hT : ∀ y, y < S.1 → x.2.1 15 y = nI (T y)) (hT1 : ∀ y, T y ≤ 2001) (hz : z < S.1) (h2k : T z ≤ 2000) : ∀ (j i : Nat) (b : Option Nat) (x5 x6 x7 : Option Value), i + j = S.2.2.1.length → (∀ k, b = some k → k < S.2.2.1.length) → Rn w mX0_cameBy (rmX 3 0 0) (ZX w (QV (.int (oI (rdt S.2.1 herd S.2.2.1 T z j i b))) A) 0 0) 0 0 A 6 [some (.ref (wb w)), some (.int (nI z)), some (.int (bI herd)), some (.int (oI b)), some (.int (nI i)), x5, x6, x7] [] := by
  obtain ⟨cr, pr, gr, r1, r2, r3, r4, r5⟩ := hx.rl.use
  have hl10 := hx.ok.2.2.2.1
  have hi6 := hx.le
  intro j
  induction j with
  | zero =>
    intro i b x5 x6 x7 hij hb
    refine r_iload 8 dX0_cameBy_6 rfl lo4 ?_
    refine r_aload_n 9 dX0_cameBy_8 rfl rfl lo0 ?_
    refine r_get 12 dX0_cameBy_9 rfl g_X0_28_0 hx.t lo3 ?_
    refine r_cF0 17 dX0_cameBy_12 rfl sF_X0_65_7 r1 (by rfl) (ev_J2_size r1) ?_
    first | refine r_icmp_geN 151 20 dX0_cameBy_17 rfl (by decide) (by omega) (by omega) (fun hc17 => ?_) (fun hc17 => ?_) | refine r_icmp_ge 151 20 dX0_cameBy_17 rfl (by decide) (fun hc17 => ?_) (fun hc17 => ?_)
    · refine r_iload_n 152 dX0_cameBy_151 rfl rfl lo3 ?_
      exact r_iret dX0_cameBy_152 rfl (Nat.le_refl _) (Nat.le_refl _) ⟨rfl, rfl⟩
    · exact absurd hc17 (by omega)
  | succ j ih =>
    intro i b x5 x6 x7 hij hb
    have hil : i < S.2.2.1.length := by omega
    obtain ⟨q, hq⟩ := get_of_lt hil
    have hrd := hx.rd i q hq
    have hqo := hx.rok hq
    have hk := hqo.1
    have htk := tkO_le (herd := herd) hqo
    have hb2 : q.2.1 < 6 ∧ q.2.2.1 < 6 := ⟨by have := hqo.2.1; omega, by have := hqo.2.2.1; omega⟩
    have hst := rdt_s (ms := S.2.1) (herd := herd) (T := T) (x := z) (j := j) (b := b) hq
    by_cases hj : q.2.1 = z ∨ q.2.2.1 = z
    · have hol : othr q z < S.1 := by
        unfold othr
        split
        · exact hqo.2.2.1
        · exact hqo.2.1
      have hto := hT (othr q z) hol
      have hto1 := hT1 (othr q z)
      by_cases h3 : tkO herd q ≤ T z
      · have hrw := hJ i q hq (T z - tkO herd q) (by omega)
        have hel := ec_le (ms := S.2.1) (q := q) (tk := tkO herd q) (h := T z - tkO herd q) (by omega)
        rcases b with _ | k
        · skip
          refine r_iload 8 dX0_cameBy_6 rfl lo4 ?_
          refine r_aload_n 9 dX0_cameBy_8 rfl rfl lo0 ?_
          refine r_get 12 dX0_cameBy_9 rfl g_X0_28_0 hx.t lo3 ?_
          refine r_cF0 17 dX0_cameBy_12 rfl sF_X0_65_7 r1 (by rfl) (ev_J2_size r1) ?_
          first | refine r_icmp_geN 151 20 dX0_cameBy_17 rfl (by decide) (by omega) (by omega) (fun hc17 => ?_) (fun hc17 => ?_) | refine r_icmp_ge 151 20 dX0_cameBy_17 rfl (by decide) (fun hc17 => ?_) (fun hc17 => ?_)
          · exact absurd hc17 (by omega)
          · refine r_aload_n 21 dX0_cameBy_20 rfl rfl lo0 ?_
            refine r_get 24 dX0_cameBy_21 rfl g_X0_28_0 hx.t lo3 ?_
            refine r_iload 26 dX0_cameBy_24 rfl lo4 ?_
            refine r_cF1 31 dX0_cameBy_26 rfl sF_X0_112_7 r1 (by rfl) (ev_J2_get r1 r2 hil r3 (by omega) (r5 i hil)) ?_
            refine r_castY 34 dX0_cameBy_31 rfl (sC_X0_147 hk) hrd.2 ?_
            refine r_astore 36 dX0_cameBy_34 rfl so5 rfl ?_
            refine r_aload_n 37 dX0_cameBy_36 rfl rfl lo0 ?_
            refine r_get 40 dX0_cameBy_37 rfl g_X0_40_0 hx.t lo6 ?_
            refine r_iload_n 41 dX0_cameBy_40 rfl rfl lo1 ?_
            refine r_ialdv 42 dX0_cameBy_41 rfl hx.a15 _ rfl (hT z hz) (by omega) (by decide) ?_
            refine r_aload 44 dX0_cameBy_42 rfl lo5 ?_
            refine r_iload_n 45 dX0_cameBy_44 rfl rfl lo2 ?_
            refine rR1 48 dX0_cameBy_45 rfl sV_X0_184_3 sU_X0_184_4 sU_X0_184_5 hrd.2 hk (by rfl) (by rfl) (by rfl) (fun _ => ev_X6_takes hrd.2 hk) (fun _ => ev_X6_takes hrd.2 hk) (fun _ => ev_X6_takes hrd.2 hk) ?_
            first | refine r_isubN 49 dX0_cameBy_48 rfl (by omega) ?_ | refine r_isub 49 dX0_cameBy_48 rfl ?_
            refine r_istore 51 dX0_cameBy_49 rfl so6 rfl ?_
            refine r_aload 53 dX0_cameBy_51 rfl lo5 ?_
            refine r_iload_n 54 dX0_cameBy_53 rfl rfl lo1 ?_
            refine rR1 57 dX0_cameBy_54 rfl sV_X0_198_3 sU_X0_198_4 sU_X0_198_5 hrd.2 hk (by rfl) (by rfl) (by rfl) (fun _ => ev_X6_joins hrd.2 hk (by omega) (by omega)) (fun _ => ev_X6_joins hrd.2 hk (by omega) (by omega)) (fun _ => ev_X6_joins hrd.2 hk (by omega) (by omega)) ?_
            refine r_if_eqB 100 60 dX0_cameBy_57 rfl (by decide) (fun hc57 => ?_) (fun hc57 => ?_)
            · exact absurd hj (of_decide_eq_false hc57)
            · refine r_iload 62 dX0_cameBy_60 rfl lo6 ?_
              first | refine r_if_ltN 100 65 dX0_cameBy_62 rfl (by decide) (by omega) (fun hc62 => ?_) (fun hc62 => ?_) | refine r_if_lt 100 65 dX0_cameBy_62 rfl (by decide) (fun hc62 => ?_) (fun hc62 => ?_)
              · exact absurd hc62 (by omega)
              · refine r_aload_n 66 dX0_cameBy_65 rfl rfl lo0 ?_
                refine r_get 69 dX0_cameBy_66 rfl g_X0_40_0 hx.t lo6 ?_
                refine r_aload 71 dX0_cameBy_69 rfl lo5 ?_
                refine r_iload_n 72 dX0_cameBy_71 rfl rfl lo1 ?_
                refine rR1 75 dX0_cameBy_72 rfl sV_X0_201_3 sU_X0_201_4 sU_X0_201_5 hrd.2 hk (by rfl) (by rfl) (by rfl) (fun _ => ev_X6_other hrd.2 hk (by omega) (by omega)) (fun _ => ev_X6_other hrd.2 hk (by omega) (by omega)) (fun _ => ev_X6_other hrd.2 hk (by omega) (by omega)) ?_
                refine r_ialdv 76 dX0_cameBy_75 rfl hx.a15 _ rfl hto (by omega) (by decide) ?_
                refine r_iload 78 dX0_cameBy_76 rfl lo6 ?_
                first | refine r_icmp_gtN 100 81 dX0_cameBy_78 rfl (by decide) (by omega) (by omega) (fun hc78 => ?_) (fun hc78 => ?_) | refine r_icmp_gt 100 81 dX0_cameBy_78 rfl (by decide) (fun hc78 => ?_) (fun hc78 => ?_)
                · refine r_iconst 101 dX0_cameBy_100 rfl ic_0 ?_
                  refine r_istore 103 dX0_cameBy_101 rfl so7 rfl ?_
                  refine r_iload 105 dX0_cameBy_103 rfl lo7 ?_
                  first | refine r_if_eqN 143 108 dX0_cameBy_105 rfl (by decide) (by omega) (fun hc105 => ?_) (fun hc105 => ?_) | refine r_if_eq 143 108 dX0_cameBy_105 rfl (by decide) (fun hc105 => ?_) (fun hc105 => ?_)
                  · refine r_iload_n 144 dX0_cameBy_143 rfl rfl lo3 ?_
                    refine r_istore_n 145 dX0_cameBy_144 rfl rfl so3 rfl ?_
                    refine r_iinc 148 dX0_cameBy_145 rfl lo4 inc1 so4 rfl ?_
                    refine r_goto 6 dX0_cameBy_148 (by decide) ?_
                    rw [hst, if_neg (fun u => by rw [show mayB S.2.1 herd T z q = false from (may_j hj).trans (decide_eq_false (fun u => absurd u.2.1 (by omega)))] at u; exact absurd u.1 (by decide))]
                    exact ih (i + 1) _ _ _ _ (by omega) hb
                  · exact absurd rfl hc105
                · refine r_aload_n 82 dX0_cameBy_81 rfl rfl lo0 ?_
                  refine r_get 85 dX0_cameBy_82 rfl g_X0_37_0 hx.t lo5 ?_
                  refine r_iload 87 dX0_cameBy_85 rfl lo4 ?_
                  refine r_aaldT (t := 3) 88 dX0_cameBy_87 rfl rfl rfl hx.s4 i rfl (by omega) (by decide) rfl ?_
                  refine r_iload 90 dX0_cameBy_88 rfl lo6 ?_
                  refine r_ialdv 91 dX0_cameBy_90 rfl (hx.row (r := i) (by omega)) _ rfl hrw (by omega) (by decide) ?_
                  refine r_iload 93 dX0_cameBy_91 rfl lo6 ?_
                  first | refine r_icmp_neN 100 96 dX0_cameBy_93 rfl (by decide) (by omega) (by omega) (fun hc93 => ?_) (fun hc93 => ?_) | refine r_icmp_ne 100 96 dX0_cameBy_93 rfl (by decide) (fun hc93 => ?_) (fun hc93 => ?_)
                  · refine r_iconst 101 dX0_cameBy_100 rfl ic_0 ?_
                    refine r_istore 103 dX0_cameBy_101 rfl so7 rfl ?_
                    refine r_iload 105 dX0_cameBy_103 rfl lo7 ?_
                    first | refine r_if_eqN 143 108 dX0_cameBy_105 rfl (by decide) (by omega) (fun hc105 => ?_) (fun hc105 => ?_) | refine r_if_eq 143 108 dX0_cameBy_105 rfl (by decide) (fun hc105 => ?_) (fun hc105 => ?_)
                    · refine r_iload_n 144 dX0_cameBy_143 rfl rfl lo3 ?_
                      refine r_istore_n 145 dX0_cameBy_144 rfl rfl so3 rfl ?_
                      refine r_iinc 148 dX0_cameBy_145 rfl lo4 inc1 so4 rfl ?_
                      refine r_goto 6 dX0_cameBy_148 (by decide) ?_
                      rw [hst, if_neg (fun u => by rw [show mayB S.2.1 herd T z q = false from (may_j hj).trans (decide_eq_false (fun u => hc93 (by rw [u.2.2]; rfl)))] at u; exact absurd u.1 (by decide))]
                      exact ih (i + 1) _ _ _ _ (by omega) hb
                    · exact absurd rfl hc105
                  · refine r_iconst 97 dX0_cameBy_96 rfl ic_1 ?_
                    refine r_goto 101 dX0_cameBy_97 (by decide) ?_
                    refine r_istore 103 dX0_cameBy_101 rfl so7 rfl ?_
                    refine r_iload 105 dX0_cameBy_103 rfl lo7 ?_
                    first | refine r_if_eqN 143 108 dX0_cameBy_105 rfl (by decide) (by omega) (fun hc105 => ?_) (fun hc105 => ?_) | refine r_if_eq 143 108 dX0_cameBy_105 rfl (by decide) (fun hc105 => ?_) (fun hc105 => ?_)
                    · exact absurd hc105 (by decide)
                    · refine r_iload_n 109 dX0_cameBy_108 rfl rfl lo3 ?_
                      refine r_if_lt 138 112 dX0_cameBy_109 rfl (by decide) (fun hc109 => ?_) (fun hc109 => ?_)
                      · refine r_iload 140 dX0_cameBy_138 rfl lo4 ?_
                        refine r_goto 144 dX0_cameBy_140 (by decide) ?_
                        refine r_istore_n 145 dX0_cameBy_144 rfl rfl so3 rfl ?_
                        refine r_iinc 148 dX0_cameBy_145 rfl lo4 inc1 so4 rfl ?_
                        refine r_goto 6 dX0_cameBy_148 (by decide) ?_
                        have hmay : mayB S.2.1 herd T z q = true := (may_j hj).trans (decide_eq_true ⟨h3, hc78, ec_some hc93 (by omega)⟩)
                        rw [hst, if_pos ⟨hmay, btr_n⟩]
                        exact ih (i + 1) (some i) _ _ _ (by omega) (fun k hk => by cases hk; omega)
                      · exact absurd (by decide) hc109
        · have hkl := hb k rfl
          obtain ⟨p, hp⟩ := get_of_lt hkl
          have hrdk := hx.rd k p hp
          have hkk := (hx.rok hp).1
          have htp := tkO_le (herd := herd) (hx.rok hp)
          refine r_iload 8 dX0_cameBy_6 rfl lo4 ?_
          refine r_aload_n 9 dX0_cameBy_8 rfl rfl lo0 ?_
          refine r_get 12 dX0_cameBy_9 rfl g_X0_28_0 hx.t lo3 ?_
          refine r_cF0 17 dX0_cameBy_12 rfl sF_X0_65_7 r1 (by rfl) (ev_J2_size r1) ?_
          first | refine r_icmp_geN 151 20 dX0_cameBy_17 rfl (by decide) (by omega) (by omega) (fun hc17 => ?_) (fun hc17 => ?_) | refine r_icmp_ge 151 20 dX0_cameBy_17 rfl (by decide) (fun hc17 => ?_) (fun hc17 => ?_)
          · exact absurd hc17 (by omega)
          · refine r_aload_n 21 dX0_cameBy_20 rfl rfl lo0 ?_
            refine r_get 24 dX0_cameBy_21 rfl g_X0_28_0 hx.t lo3 ?_
            refine r_iload 26 dX0_cameBy_24 rfl lo4 ?_
            refine r_cF1 31 dX0_cameBy_26 rfl sF_X0_112_7 r1 (by rfl) (ev_J2_get r1 r2 hil r3 (by omega) (r5 i hil)) ?_
            refine r_castY 34 dX0_cameBy_31 rfl (sC_X0_147 hk) hrd.2 ?_
            refine r_astore 36 dX0_cameBy_34 rfl so5 rfl ?_
            refine r_aload_n 37 dX0_cameBy_36 rfl rfl lo0 ?_
            refine r_get 40 dX0_cameBy_37 rfl g_X0_40_0 hx.t lo6 ?_
            refine r_iload_n 41 dX0_cameBy_40 rfl rfl lo1 ?_
            refine r_ialdv 42 dX0_cameBy_41 rfl hx.a15 _ rfl (hT z hz) (by omega) (by decide) ?_
            refine r_aload 44 dX0_cameBy_42 rfl lo5 ?_
            refine r_iload_n 45 dX0_cameBy_44 rfl rfl lo2 ?_
            refine rR1 48 dX0_cameBy_45 rfl sV_X0_184_3 sU_X0_184_4 sU_X0_184_5 hrd.2 hk (by rfl) (by rfl) (by rfl) (fun _ => ev_X6_takes hrd.2 hk) (fun _ => ev_X6_takes hrd.2 hk) (fun _ => ev_X6_takes hrd.2 hk) ?_
            first | refine r_isubN 49 dX0_cameBy_48 rfl (by omega) ?_ | refine r_isub 49 dX0_cameBy_48 rfl ?_
            refine r_istore 51 dX0_cameBy_49 rfl so6 rfl ?_
            refine r_aload 53 dX0_cameBy_51 rfl lo5 ?_
            refine r_iload_n 54 dX0_cameBy_53 rfl rfl lo1 ?_
            refine rR1 57 dX0_cameBy_54 rfl sV_X0_198_3 sU_X0_198_4 sU_X0_198_5 hrd.2 hk (by rfl) (by rfl) (by rfl) (fun _ => ev_X6_joins hrd.2 hk (by omega) (by omega)) (fun _ => ev_X6_joins hrd.2 hk (by omega) (by omega)) (fun _ => ev_X6_joins hrd.2 hk (by omega) (by omega)) ?_
            refine r_if_eqB 100 60 dX0_cameBy_57 rfl (by decide) (fun hc57 => ?_) (fun hc57 => ?_)
            · exact absurd hj (of_decide_eq_false hc57)
            · refine r_iload 62 dX0_cameBy_60 rfl lo6 ?_
              first | refine r_if_ltN 100 65 dX0_cameBy_62 rfl (by decide) (by omega) (fun hc62 => ?_) (fun hc62 => ?_) | refine r_if_lt 100 65 dX0_cameBy_62 rfl (by decide) (fun hc62 => ?_) (fun hc62 => ?_)
              · exact absurd hc62 (by omega)
              · refine r_aload_n 66 dX0_cameBy_65 rfl rfl lo0 ?_
                refine r_get 69 dX0_cameBy_66 rfl g_X0_40_0 hx.t lo6 ?_
                refine r_aload 71 dX0_cameBy_69 rfl lo5 ?_
                refine r_iload_n 72 dX0_cameBy_71 rfl rfl lo1 ?_
                refine rR1 75 dX0_cameBy_72 rfl sV_X0_201_3 sU_X0_201_4 sU_X0_201_5 hrd.2 hk (by rfl) (by rfl) (by rfl) (fun _ => ev_X6_other hrd.2 hk (by omega) (by omega)) (fun _ => ev_X6_other hrd.2 hk (by omega) (by omega)) (fun _ => ev_X6_other hrd.2 hk (by omega) (by omega)) ?_
                refine r_ialdv 76 dX0_cameBy_75 rfl hx.a15 _ rfl hto (by omega) (by decide) ?_
                refine r_iload 78 dX0_cameBy_76 rfl lo6 ?_
                first | refine r_icmp_gtN 100 81 dX0_cameBy_78 rfl (by decide) (by omega) (by omega) (fun hc78 => ?_) (fun hc78 => ?_) | refine r_icmp_gt 100 81 dX0_cameBy_78 rfl (by decide) (fun hc78 => ?_) (fun hc78 => ?_)
                · refine r_iconst 101 dX0_cameBy_100 rfl ic_0 ?_
                  refine r_istore 103 dX0_cameBy_101 rfl so7 rfl ?_
                  refine r_iload 105 dX0_cameBy_103 rfl lo7 ?_
                  first | refine r_if_eqN 143 108 dX0_cameBy_105 rfl (by decide) (by omega) (fun hc105 => ?_) (fun hc105 => ?_) | refine r_if_eq 143 108 dX0_cameBy_105 rfl (by decide) (fun hc105 => ?_) (fun hc105 => ?_)
                  · refine r_iload_n 144 dX0_cameBy_143 rfl rfl lo3 ?_
                    refine r_istore_n 145 dX0_cameBy_144 rfl rfl so3 rfl ?_
                    refine r_iinc 148 dX0_cameBy_145 rfl lo4 inc1 so4 rfl ?_
                    refine r_goto 6 dX0_cameBy_148 (by decide) ?_
                    rw [hst, if_neg (fun u => by rw [show mayB S.2.1 herd T z q = false from (may_j hj).trans (decide_eq_false (fun u => absurd u.2.1 (by omega)))] at u; exact absurd u.1 (by decide))]
                    exact ih (i + 1) _ _ _ _ (by omega) hb
                  · exact absurd rfl hc105
                · refine r_aload_n 82 dX0_cameBy_81 rfl rfl lo0 ?_
                  refine r_get 85 dX0_cameBy_82 rfl g_X0_37_0 hx.t lo5 ?_
                  refine r_iload 87 dX0_cameBy_85 rfl lo4 ?_
                  refine r_aaldT (t := 3) 88 dX0_cameBy_87 rfl rfl rfl hx.s4 i rfl (by omega) (by decide) rfl ?_
                  refine r_iload 90 dX0_cameBy_88 rfl lo6 ?_
                  refine r_ialdv 91 dX0_cameBy_90 rfl (hx.row (r := i) (by omega)) _ rfl hrw (by omega) (by decide) ?_
                  refine r_iload 93 dX0_cameBy_91 rfl lo6 ?_
                  first | refine r_icmp_neN 100 96 dX0_cameBy_93 rfl (by decide) (by omega) (by omega) (fun hc93 => ?_) (fun hc93 => ?_) | refine r_icmp_ne 100 96 dX0_cameBy_93 rfl (by decide) (fun hc93 => ?_) (fun hc93 => ?_)
                  · refine r_iconst 101 dX0_cameBy_100 rfl ic_0 ?_
                    refine r_istore 103 dX0_cameBy_101 rfl so7 rfl ?_
                    refine r_iload 105 dX0_cameBy_103 rfl lo7 ?_
                    first | refine r_if_eqN 143 108 dX0_cameBy_105 rfl (by decide) (by omega) (fun hc105 => ?_) (fun hc105 => ?_) | refine r_if_eq 143 108 dX0_cameBy_105 rfl (by decide) (fun hc105 => ?_) (fun hc105 => ?_)
                    · refine r_iload_n 144 dX0_cameBy_143 rfl rfl lo3 ?_
                      refine r_istore_n 145 dX0_cameBy_144 rfl rfl so3 rfl ?_
                      refine r_iinc 148 dX0_cameBy_145 rfl lo4 inc1 so4 rfl ?_
                      refine r_goto 6 dX0_cameBy_148 (by decide) ?_
                      rw [hst, if_neg (fun u => by rw [show mayB S.2.1 herd T z q = false from (may_j hj).trans (decide_eq_false (fun u => hc93 (by rw [u.2.2]; rfl)))] at u; exact absurd u.1 (by decide))]
                      exact ih (i + 1) _ _ _ _ (by omega) hb
                    · exact absurd rfl hc105
                  · refine r_iconst 97 dX0_cameBy_96 rfl ic_1 ?_
                    refine r_goto 101 dX0_cameBy_97 (by decide) ?_
                    refine r_istore 103 dX0_cameBy_101 rfl so7 rfl ?_
                    refine r_iload 105 dX0_cameBy_103 rfl lo7 ?_
                    first | refine r_if_eqN 143 108 dX0_cameBy_105 rfl (by decide) (by omega) (fun hc105 => ?_) (fun hc105 => ?_) | refine r_if_eq 143 108 dX0_cameBy_105 rfl (by decide) (fun hc105 => ?_) (fun hc105 => ?_)
                    · exact absurd hc105 (by decide)
                    · refine r_iload_n 109 dX0_cameBy_108 rfl rfl lo3 ?_
                      refine r_if_lt 138 112 dX0_cameBy_109 rfl (by decide) (fun hc109 => ?_) (fun hc109 => ?_)
                      · exact absurd hc109 (nI_pos (by omega))
                      · refine r_aload 114 dX0_cameBy_112 rfl lo5 ?_
                        refine r_iload_n 115 dX0_cameBy_114 rfl rfl lo2 ?_
                        refine rR1 118 dX0_cameBy_115 rfl sV_X0_184_3 sU_X0_184_4 sU_X0_184_5 hrd.2 hk (by rfl) (by rfl) (by rfl) (fun _ => ev_X6_takes hrd.2 hk) (fun _ => ev_X6_takes hrd.2 hk) (fun _ => ev_X6_takes hrd.2 hk) ?_
                        refine r_aload_n 119 dX0_cameBy_118 rfl rfl lo0 ?_
                        refine r_get 122 dX0_cameBy_119 rfl g_X0_28_0 hx.t lo3 ?_
                        refine r_iload_n 123 dX0_cameBy_122 rfl rfl lo3 ?_
                        refine r_cF1 128 dX0_cameBy_123 rfl sF_X0_112_7 r1 (by rfl) (ev_J2_get r1 r2 hkl r3 (by omega) (r5 k hkl)) ?_
                        refine r_castY 131 dX0_cameBy_128 rfl (sC_X0_147 hkk) hrdk.2 ?_
                        refine r_iload_n 132 dX0_cameBy_131 rfl rfl lo2 ?_
                        refine rR1 135 dX0_cameBy_132 rfl sV_X0_184_3 sU_X0_184_4 sU_X0_184_5 hrdk.2 hkk (by rfl) (by rfl) (by rfl) (fun _ => ev_X6_takes hrdk.2 hkk) (fun _ => ev_X6_takes hrdk.2 hkk) (fun _ => ev_X6_takes hrdk.2 hkk) ?_
                        first | refine r_icmp_geN 143 138 dX0_cameBy_135 rfl (by decide) (by omega) (by omega) (fun hc135 => ?_) (fun hc135 => ?_) | refine r_icmp_ge 143 138 dX0_cameBy_135 rfl (by decide) (fun hc135 => ?_) (fun hc135 => ?_)
                        · refine r_iload_n 144 dX0_cameBy_143 rfl rfl lo3 ?_
                          refine r_istore_n 145 dX0_cameBy_144 rfl rfl so3 rfl ?_
                          refine r_iinc 148 dX0_cameBy_145 rfl lo4 inc1 so4 rfl ?_
                          refine r_goto 6 dX0_cameBy_148 (by decide) ?_
                          have hmay : mayB S.2.1 herd T z q = true := (may_j hj).trans (decide_eq_true ⟨h3, hc78, ec_some hc93 (by omega)⟩)
                          first
                            | (rw [hst, if_pos ⟨hmay, by rw [btr_k hp]; exact decide_eq_true (by omega)⟩]; exact ih (i + 1) (some i) _ _ _ (by omega) (fun k hk => by cases hk; omega))
                            | (rw [hst, if_neg (fun u => by rw [btr_k hp] at u; have := of_decide_eq_true u.2; omega)]; exact ih (i + 1) (some k) _ _ _ (by omega) hb)
                        · refine r_iload 140 dX0_cameBy_138 rfl lo4 ?_
                          refine r_goto 144 dX0_cameBy_140 (by decide) ?_
                          refine r_istore_n 145 dX0_cameBy_144 rfl rfl so3 rfl ?_
                          refine r_iinc 148 dX0_cameBy_145 rfl lo4 inc1 so4 rfl ?_
                          refine r_goto 6 dX0_cameBy_148 (by decide) ?_
                          have hmay : mayB S.2.1 herd T z q = true := (may_j hj).trans (decide_eq_true ⟨h3, hc78, ec_some hc93 (by omega)⟩)
                          first
                            | (rw [hst, if_pos ⟨hmay, by rw [btr_k hp]; exact decide_eq_true (by omega)⟩]; exact ih (i + 1) (some i) _ _ _ (by omega) (fun k hk => by cases hk; omega))
                            | (rw [hst, if_neg (fun u => by rw [btr_k hp] at u; have := of_decide_eq_true u.2; omega)]; exact ih (i + 1) (some k) _ _ _ (by omega) hb)
      · skip
        refine r_iload 8 dX0_cameBy_6 rfl lo4 ?_
        refine r_aload_n 9 dX0_cameBy_8 rfl rfl lo0 ?_
        refine r_get 12 dX0_cameBy_9 rfl g_X0_28_0 hx.t lo3 ?_
        refine r_cF0 17 dX0_cameBy_12 rfl sF_X0_65_7 r1 (by rfl) (ev_J2_size r1) ?_
        first | refine r_icmp_geN 151 20 dX0_cameBy_17 rfl (by decide) (by omega) (by omega) (fun hc17 => ?_) (fun hc17 => ?_) | refine r_icmp_ge 151 20 dX0_cameBy_17 rfl (by decide) (fun hc17 => ?_) (fun hc17 => ?_)
        · exact absurd hc17 (by omega)
        · refine r_aload_n 21 dX0_cameBy_20 rfl rfl lo0 ?_
          refine r_get 24 dX0_cameBy_21 rfl g_X0_28_0 hx.t lo3 ?_
          refine r_iload 26 dX0_cameBy_24 rfl lo4 ?_
          refine r_cF1 31 dX0_cameBy_26 rfl sF_X0_112_7 r1 (by rfl) (ev_J2_get r1 r2 hil r3 (by omega) (r5 i hil)) ?_
          refine r_castY 34 dX0_cameBy_31 rfl (sC_X0_147 hk) hrd.2 ?_
          refine r_astore 36 dX0_cameBy_34 rfl so5 rfl ?_
          refine r_aload_n 37 dX0_cameBy_36 rfl rfl lo0 ?_
          refine r_get 40 dX0_cameBy_37 rfl g_X0_40_0 hx.t lo6 ?_
          refine r_iload_n 41 dX0_cameBy_40 rfl rfl lo1 ?_
          refine r_ialdv 42 dX0_cameBy_41 rfl hx.a15 _ rfl (hT z hz) (by omega) (by decide) ?_
          refine r_aload 44 dX0_cameBy_42 rfl lo5 ?_
          refine r_iload_n 45 dX0_cameBy_44 rfl rfl lo2 ?_
          refine rR1 48 dX0_cameBy_45 rfl sV_X0_184_3 sU_X0_184_4 sU_X0_184_5 hrd.2 hk (by rfl) (by rfl) (by rfl) (fun _ => ev_X6_takes hrd.2 hk) (fun _ => ev_X6_takes hrd.2 hk) (fun _ => ev_X6_takes hrd.2 hk) ?_
          first | refine r_isubN 49 dX0_cameBy_48 rfl (by omega) ?_ | refine r_isub 49 dX0_cameBy_48 rfl ?_
          refine r_istore 51 dX0_cameBy_49 rfl so6 rfl ?_
          refine r_aload 53 dX0_cameBy_51 rfl lo5 ?_
          refine r_iload_n 54 dX0_cameBy_53 rfl rfl lo1 ?_
          refine rR1 57 dX0_cameBy_54 rfl sV_X0_198_3 sU_X0_198_4 sU_X0_198_5 hrd.2 hk (by rfl) (by rfl) (by rfl) (fun _ => ev_X6_joins hrd.2 hk (by omega) (by omega)) (fun _ => ev_X6_joins hrd.2 hk (by omega) (by omega)) (fun _ => ev_X6_joins hrd.2 hk (by omega) (by omega)) ?_
          refine r_if_eqB 100 60 dX0_cameBy_57 rfl (by decide) (fun hc57 => ?_) (fun hc57 => ?_)
          · exact absurd hj (of_decide_eq_false hc57)
          · refine r_iload 62 dX0_cameBy_60 rfl lo6 ?_
            refine r_if_lt 100 65 dX0_cameBy_62 rfl (by decide) (fun hc62 => ?_) (fun hc62 => ?_)
            · refine r_iconst 101 dX0_cameBy_100 rfl ic_0 ?_
              refine r_istore 103 dX0_cameBy_101 rfl so7 rfl ?_
              refine r_iload 105 dX0_cameBy_103 rfl lo7 ?_
              first | refine r_if_eqN 143 108 dX0_cameBy_105 rfl (by decide) (by omega) (fun hc105 => ?_) (fun hc105 => ?_) | refine r_if_eq 143 108 dX0_cameBy_105 rfl (by decide) (fun hc105 => ?_) (fun hc105 => ?_)
              · refine r_iload_n 144 dX0_cameBy_143 rfl rfl lo3 ?_
                refine r_istore_n 145 dX0_cameBy_144 rfl rfl so3 rfl ?_
                refine r_iinc 148 dX0_cameBy_145 rfl lo4 inc1 so4 rfl ?_
                refine r_goto 6 dX0_cameBy_148 (by decide) ?_
                rw [hst, if_neg (fun u => by rw [show mayB S.2.1 herd T z q = false from (may_j hj).trans (decide_eq_false (fun u => h3 u.1))] at u; exact absurd u.1 (by decide))]
                exact ih (i + 1) _ _ _ _ (by omega) hb
              · exact absurd rfl hc105
            · exact absurd (i_lt.mpr (by rw [pk_sub_toInt (by omega) (by omega), z_om]; omega)) hc62
    refine r_iload 8 dX0_cameBy_6 rfl lo4 ?_
    refine r_aload_n 9 dX0_cameBy_8 rfl rfl lo0 ?_
    refine r_get 12 dX0_cameBy_9 rfl g_X0_28_0 hx.t lo3 ?_
    refine r_cF0 17 dX0_cameBy_12 rfl sF_X0_65_7 r1 (by rfl) (ev_J2_size r1) ?_
    first | refine r_icmp_geN 151 20 dX0_cameBy_17 rfl (by decide) (by omega) (by omega) (fun hc17 => ?_) (fun hc17 => ?_) | refine r_icmp_ge 151 20 dX0_cameBy_17 rfl (by decide) (fun hc17 => ?_) (fun hc17 => ?_)
    · exact absurd hc17 (by omega)
    · refine r_aload_n 21 dX0_cameBy_20 rfl rfl lo0 ?_
      refine r_get 24 dX0_cameBy_21 rfl g_X0_28_0 hx.t lo3 ?_
      refine r_iload 26 dX0_cameBy_24 rfl lo4 ?_
      refine r_cF1 31 dX0_cameBy_26 rfl sF_X0_112_7 r1 (by rfl) (ev_J2_get r1 r2 hil r3 (by omega) (r5 i hil)) ?_
      refine r_castY 34 dX0_cameBy_31 rfl (sC_X0_147 hk) hrd.2 ?_
      refine r_astore 36 dX0_cameBy_34 rfl so5 rfl ?_
      refine r_aload_n 37 dX0_cameBy_36 rfl rfl lo0 ?_
      refine r_get 40 dX0_cameBy_37 rfl g_X0_40_0 hx.t lo6 ?_
      refine r_iload_n 41 dX0_cameBy_40 rfl rfl lo1 ?_
      refine r_ialdv 42 dX0_cameBy_41 rfl hx.a15 _ rfl (hT z hz) (by omega) (by decide) ?_
      refine r_aload 44 dX0_cameBy_42 rfl lo5 ?_
      refine r_iload_n 45 dX0_cameBy_44 rfl rfl lo2 ?_
      refine rR1 48 dX0_cameBy_45 rfl sV_X0_184_3 sU_X0_184_4 sU_X0_184_5 hrd.2 hk (by rfl) (by rfl) (by rfl) (fun _ => ev_X6_takes hrd.2 hk) (fun _ => ev_X6_takes hrd.2 hk) (fun _ => ev_X6_takes hrd.2 hk) ?_
      first | refine r_isubN 49 dX0_cameBy_48 rfl (by omega) ?_ | refine r_isub 49 dX0_cameBy_48 rfl ?_
      refine r_istore 51 dX0_cameBy_49 rfl so6 rfl ?_
      refine r_aload 53 dX0_cameBy_51 rfl lo5 ?_
      refine r_iload_n 54 dX0_cameBy_53 rfl rfl lo1 ?_
      refine rR1 57 dX0_cameBy_54 rfl sV_X0_198_3 sU_X0_198_4 sU_X0_198_5 hrd.2 hk (by rfl) (by rfl) (by rfl) (fun _ => ev_X6_joins hrd.2 hk (by omega) (by omega)) (fun _ => ev_X6_joins hrd.2 hk (by omega) (by omega)) (fun _ => ev_X6_joins hrd.2 hk (by omega) (by omega)) ?_
      refine r_if_eqB 100 60 dX0_cameBy_57 rfl (by decide) (fun hc57 => ?_) (fun hc57 => ?_)
      · refine r_iconst 101 dX0_cameBy_100 rfl ic_0 ?_
        refine r_istore 103 dX0_cameBy_101 rfl so7 rfl ?_
        refine r_iload 105 dX0_cameBy_103 rfl lo7 ?_
        first | refine r_if_eqN 143 108 dX0_cameBy_105 rfl (by decide) (by omega) (fun hc105 => ?_) (fun hc105 => ?_) | refine r_if_eq 143 108 dX0_cameBy_105 rfl (by decide) (fun hc105 => ?_) (fun hc105 => ?_)
        · refine r_iload_n 144 dX0_cameBy_143 rfl rfl lo3 ?_
          refine r_istore_n 145 dX0_cameBy_144 rfl rfl so3 rfl ?_
          refine r_iinc 148 dX0_cameBy_145 rfl lo4 inc1 so4 rfl ?_
          refine r_goto 6 dX0_cameBy_148 (by decide) ?_
          rw [hst, if_neg (fun u => by rw [show mayB S.2.1 herd T z q = false from may_nj hj] at u; exact absurd u.1 (by decide))]
          exact ih (i + 1) _ _ _ _ (by omega) hb
        · exact absurd rfl hc105
      · exact absurd (of_decide_eq_true hc57) hj

set_option maxHeartbeats 4000000 in
theorem ev_X0_cameBy {w : WE} {A : Hp} {x : XT} {S : ST} {herd : Bool} {T : Nat → Nat} {z : Nat} (hx : XS w A x S) (hJ : JX x S herd) (hT : ∀ y, y < S.1 → x.2.1 15 y = nI (T y)) (hT1 : ∀ y, T y ≤ 2001) (hz : z < S.1) (h2k : T z ≤ 2000) : EvI w mX0_cameBy 3 [.ref (wb w), .int (nI z), .int (bI herd)] A (oI (rdt S.2.1 herd S.2.2.1 T z S.2.2.1.length 0 none)) := by
  refine Ev.mk 5 [some (.ref (wb w)), some (.int (nI z)), some (.int (bI herd)), none, none, none, none, none] rfl plX0 (Nat.le_of_ble_eq_true rfl) ?_
  refine r_bipush 2 dX0_cameBy_0 rfl bi_m9 ?_
  refine r_istore_n 3 dX0_cameBy_2 rfl rfl so3 rfl ?_
  refine r_iconst 4 dX0_cameBy_3 rfl ic_0 ?_
  refine r_istore 6 dX0_cameBy_4 rfl so4 rfl ?_
  exact lp_X0_cameBy hx hJ hT hT1 hz h2k S.2.2.1.length 0 none _ _ _ (by omega) (fun k hk => by cases hk)

set_option maxHeartbeats 4000000 in
theorem lp_X0_way {w : WE} {A0 : Hp} {x : XT} {S : ST} {herd : Bool} {f h : Nat} {T : Nat → Nat} {L : List Nat} {z2 qq : Int32} (hJ : JX x S herd) (hT : ∀ y, y < S.1 → x.2.1 15 y = nI (cp (T y))) (hL : Lst S.1 S.2.1 herd S.2.2.1 f h T) (hh : h ≤ 2000) (hf : f < S.1) (hq1 : ¬ qq.toInt < -1) : ∀ (j z : Nat) (acc : List Nat) (A : Hp) (g : Nat → Int32), sn S.1 T z < j → acc.length + j ≤ 6 → z < S.1 → T z ≤ 2000 → (∀ i r, acc[i]? = some r → g i = nI r) → L = acc ++ ways S.2.1 herd S.2.2.1 T f j z → XS w A (xr x 16 g) S → Fx w A0 A → Rn w mX0_way (rmX 6 0 0) (ZX w (fun v A' => v = (some (.int (if qq.toInt = -1 then nI L.length else if qq.toInt < (L.length : Int) then nI (L.getD (L.length - 1 - qq.toInt.toNat) 0) else -9))) ∧ (fun A' => ∃ x' : XT, XS w A' x' S ∧ Fx w A0 A') A') 0 0) 0 0 A 69 [some (.ref (wb w)), some (.int (nI f)), some (.int z2), some (.int (nI h)), some (.int (bI herd)), some (.int qq), some (.int (nI acc.length)), some (.int (nI z))] [] := by
  intro j
  induction j with
  | zero =>
    intro z acc A g h1
    omega
  | succ j ih =>
    intro z acc A g h1 h2 hz h2k hg hL' hx hF
    obtain ⟨cr, pr, gr, r1, r2, r3, r4, r5⟩ := hx.rl.use
    have hl10 := hx.ok.2.2.2.1
    have hi6 := hx.le
    have hok := hx.ok.2.2.2.2
    refine r_iload 71 dX0_way_69 rfl lo7 ?_
    refine r_iload_n 72 dX0_way_71 rfl rfl lo1 ?_
    first | refine r_icmp_eqN 124 75 dX0_way_72 rfl (by decide) (by omega) (by omega) (fun hc72 => ?_) (fun hc72 => ?_) | refine r_icmp_eq 124 75 dX0_way_72 rfl (by decide) (fun hc72 => ?_) (fun hc72 => ?_)
    · refine r_iload 126 dX0_way_124 rfl lo5 ?_
      refine r_if_ge 134 129 dX0_way_126 rfl (by decide) (fun hc126 => ?_) (fun hc126 => ?_)
      · obtain ⟨qn, q1, rfl, q3⟩ := i_nat (x := qq) (by have u := i_le.mp hc126; rw [z_om] at u; exact u)
        refine r_iload 136 dX0_way_134 rfl lo5 ?_
        refine r_iload 138 dX0_way_136 rfl lo6 ?_
        first | refine r_icmp_geN 156 141 dX0_way_138 rfl (by decide) (by omega) (by omega) (fun hc138 => ?_) (fun hc138 => ?_) | refine r_icmp_ge 156 141 dX0_way_138 rfl (by decide) (fun hc138 => ?_) (fun hc138 => ?_)
        · refine r_bipush 158 dX0_way_156 rfl bi_m9 ?_
          exact r_iret dX0_way_158 rfl (Nat.le_refl _) (Nat.le_refl _) ⟨rq (by rw [hc72, ways_f, List.append_nil] at hL'; subst hL'; first | (rw [if_pos (by have u : ¬ (0 : Int32).toInt ≤ qq.toInt := fun e => hc126 (i_le.mpr e); rw [z_om] at u; omega)]) | (rw [nI_toInt (n := qn) (by omega), if_neg (by omega), if_pos (by omega)]; rfl) | (rw [nI_toInt (n := qn) (by omega), if_neg (by omega), if_neg (by omega)])), _, hx, hF⟩
        · refine r_aload_n 142 dX0_way_141 rfl rfl lo0 ?_
          refine r_get 145 dX0_way_142 rfl g_X0_43_0 hx.t lo7 ?_
          refine r_iload 147 dX0_way_145 rfl lo6 ?_
          refine r_iconst 148 dX0_way_147 rfl ic_1 ?_
          first | refine r_isubN 149 dX0_way_148 rfl (by omega) ?_ | refine r_isub 149 dX0_way_148 rfl ?_
          refine r_iload 151 dX0_way_149 rfl lo5 ?_
          first | refine r_isubN 152 dX0_way_151 rfl (by omega) ?_ | refine r_isub 152 dX0_way_151 rfl ?_
          refine r_ialdv 153 dX0_way_152 rfl hx.a16 _ rfl (show g (acc.length - 1 - qn) = nI (acc.getD (acc.length - 1 - qn) 0) from hg _ _ (by rw [List.getD_eq_getElem?_getD]; obtain ⟨r, hr⟩ := get_of_lt (l := acc) (i := acc.length - 1 - qn) (by omega); rw [hr]; rfl)) (by omega) (by decide) ?_
          refine r_goto 158 dX0_way_153 (by decide) ?_
          exact r_iret dX0_way_158 rfl (Nat.le_refl _) (Nat.le_refl _) ⟨rq (by rw [hc72, ways_f, List.append_nil] at hL'; subst hL'; first | (rw [if_pos (by have u : ¬ (0 : Int32).toInt ≤ qq.toInt := fun e => hc126 (i_le.mpr e); rw [z_om] at u; omega)]) | (rw [nI_toInt (n := qn) (by omega), if_neg (by omega), if_pos (by omega)]; rfl) | (rw [nI_toInt (n := qn) (by omega), if_neg (by omega), if_neg (by omega)])), _, hx, hF⟩
      · refine r_iload 131 dX0_way_129 rfl lo6 ?_
        refine r_goto 158 dX0_way_131 (by decide) ?_
        exact r_iret dX0_way_158 rfl (Nat.le_refl _) (Nat.le_refl _) ⟨rq (by rw [hc72, ways_f, List.append_nil] at hL'; subst hL'; first | (rw [if_pos (by have u : ¬ (0 : Int32).toInt ≤ qq.toInt := fun e => hc126 (i_le.mpr e); rw [z_om] at u; omega)]) | (rw [nI_toInt (n := qn) (by omega), if_neg (by omega), if_pos (by omega)]; rfl) | (rw [nI_toInt (n := qn) (by omega), if_neg (by omega), if_neg (by omega)])), _, hx, hF⟩
    · obtain ⟨r, q, hr, hq, hmay⟩ := rdt_ok hok hh hL hc72 hz h2k
      obtain ⟨hjn, hmd⟩ := may_y hmay
      have hqo := hx.rok hq
      have hk := hqo.1
      have hrl : r < S.2.2.1.length := (List.getElem?_eq_some_iff.mp hq).1
      have hrd := hx.rd r q hq
      have hyl := (Jn_lt hqo hjn).1
      have htk := tkO_le (herd := herd) hqo
      obtain ⟨d1, d2, -⟩ := hmd
      obtain ⟨o1, o2, o3, o4, o5⟩ := hqo
      have hoI : oI (rdt S.2.1 herd S.2.2.1 (fun y => cp (T y)) z S.2.2.1.length 0 none) = nI r := by rw [rdt_cp h2k, hr]; rfl
      refine r_aload_n 76 dX0_way_75 rfl rfl lo0 ?_
      refine r_get 79 dX0_way_76 rfl g_X0_43_0 hx.t lo7 ?_
      refine r_iload 81 dX0_way_79 rfl lo6 ?_
      refine r_aload_n 82 dX0_way_81 rfl rfl lo0 ?_
      refine r_iload 84 dX0_way_82 rfl lo7 ?_
      refine r_iload 86 dX0_way_84 rfl lo4 ?_
      refine r_cV2 89 dX0_way_86 rfl sV_X0_220_0 hx.t (by rfl) (ev_X0_cameBy (T := fun y => cp (T y)) hx (hJ.xr hl10 (by decide)) hT (fun y => cp_le) hz (by rw [cp_s (by omega)]; exact h2k)) ?_
      rw [hoI]
      refine rx_iast (kk := 16) (N := 6) 90 dX0_way_89 rfl hx hF (Or.inr (by decide)) _ rfl rfl (by omega) (by decide) (fun A hx hF => ?_)
      rw [bx_uu] at hx
      obtain ⟨cr, pr, gr, r1, r2, r3, r4, r5⟩ := hx.rl.use
      have hrd := hx.rd r q hq
      refine r_iinc 93 dX0_way_90 rfl lo6 inc1 so6 rfl ?_
      refine r_aload_n 94 dX0_way_93 rfl rfl lo0 ?_
      refine r_get 97 dX0_way_94 rfl g_X0_28_0 hx.t lo3 ?_
      refine r_aload_n 98 dX0_way_97 rfl rfl lo0 ?_
      refine r_get 101 dX0_way_98 rfl g_X0_43_0 hx.t lo7 ?_
      refine r_iload 103 dX0_way_101 rfl lo6 ?_
      refine r_iconst 104 dX0_way_103 rfl ic_1 ?_
      refine r_isubN 105 dX0_way_104 rfl (by omega) ?_
      rw [show acc.length + 1 - 1 = acc.length by omega]
      refine r_ialdv 106 dX0_way_105 rfl hx.a16 _ rfl (show upd g acc.length (nI r) acc.length = nI r from upd_s) (by omega) (by decide) ?_
      refine r_cF1 111 dX0_way_106 rfl sF_X0_112_7 r1 (by rfl) (ev_J2_get r1 r2 hrl r3 (by omega) (r5 r hrl)) ?_
      refine r_castY 114 dX0_way_111 rfl (sC_X0_147 hk) hrd.2 ?_
      refine r_iload 116 dX0_way_114 rfl lo7 ?_
      refine rR1 119 dX0_way_116 rfl sV_X0_201_3 sU_X0_201_4 sU_X0_201_5 hrd.2 hk (by rfl) (by rfl) (by rfl) (fun _ => ev_X6_other hrd.2 hk (by omega) (by omega)) (fun _ => ev_X6_other hrd.2 hk (by omega) (by omega)) (fun _ => ev_X6_other hrd.2 hk (by omega) (by omega)) ?_
      refine r_istore 121 dX0_way_119 rfl so7 rfl ?_
      refine r_goto 69 dX0_way_121 (by decide) ?_
      rw [ways_s hc72 hr hq] at hL'
      rw [show nI (acc.length + 1) = nI (acc ++ [r]).length by rw [List.length_append]; rfl]
      refine ih (othr q z) (acc ++ [r]) A _ (Nat.lt_of_lt_of_le (sn_dec (x := z) hyl (by omega)) (by omega)) (by simp; omega) hyl (by omega) (fun i p hp => ?_) (by rw [hL']; simp) hx hF
      by_cases e : i < acc.length
      · rw [List.getElem?_append_left e] at hp
        rw [upd_n (by omega)]
        exact hg i p hp
      · rw [List.getElem?_append_right (by omega)] at hp
        by_cases e2 : i = acc.length
        · subst e2
          simp at hp
          subst hp
          exact upd_s
        · rw [List.getElem?_eq_none (by simp; omega)] at hp
          cases hp

set_option maxHeartbeats 4000000 in
theorem ev_X0_way {w : WE} {A : Hp} {x : XT} {S : ST} {f t hour q : Int32} {herd : Bool} (hx : XS w A x S) : EvP w mX0_way 6 0 0 [.ref (wb w), .int f, .int t, .int hour, .int (bI herd), .int q] A (some (.int (sp_way S f t hour herd q))) (fun A' => ∃ x' : XT, XS w A' x' S ∧ Fx w A A') := by
  refine Ev.mk 2 [some (.ref (wb w)), some (.int f), some (.int t), some (.int hour), some (.int (bI herd)), some (.int q), none, none] rfl plX0 (Nat.le_of_ble_eq_true rfl) ?_
  have hi6 := hx.le
  have hl10 := hx.ok.2.2.2.1
  have hok := hx.ok.2.2.2.2
  refine r_aload_n 1 dX0_way_0 rfl rfl lo0 ?_
  refine r_iload_n 2 dX0_way_1 rfl rfl lo1 ?_
  refine r_cV1 5 dX0_way_2 rfl sV_X0_142_0 hx.t (by rfl) (ev_X0_noIsland hx) ?_
  refine r_if_neB 22 8 dX0_way_5 rfl (by decide) (fun hc5 => ?_) (fun hc5 => ?_)
  · refine r_iconst 23 dX0_way_22 rfl ic_m1 ?_
    exact r_iret dX0_way_23 rfl (Nat.le_refl _) (Nat.le_refl _) ⟨rq (by unfold sp_way; rw [if_pos (by first | exact Or.inl (by rw [nb_f hc5]; decide) | exact Or.inr (Or.inl (by rw [nb_f hc13]; decide)) | exact Or.inr (Or.inr (by have u : ¬ (-1 : Int32).toInt ≤ q.toInt := fun e => hc19 (i_le.mpr e); rw [im1] at u; omega)))]), x, hx, Fx.rf⟩
  · refine r_aload_n 9 dX0_way_8 rfl rfl lo0 ?_
    refine r_iload_n 10 dX0_way_9 rfl rfl lo2 ?_
    refine r_cV1 13 dX0_way_10 rfl sV_X0_142_0 hx.t (by rfl) (ev_X0_noIsland hx) ?_
    refine r_if_neB 22 16 dX0_way_13 rfl (by decide) (fun hc13 => ?_) (fun hc13 => ?_)
    · refine r_iconst 23 dX0_way_22 rfl ic_m1 ?_
      exact r_iret dX0_way_23 rfl (Nat.le_refl _) (Nat.le_refl _) ⟨rq (by unfold sp_way; rw [if_pos (by first | exact Or.inl (by rw [nb_f hc5]; decide) | exact Or.inr (Or.inl (by rw [nb_f hc13]; decide)) | exact Or.inr (Or.inr (by have u : ¬ (-1 : Int32).toInt ≤ q.toInt := fun e => hc19 (i_le.mpr e); rw [im1] at u; omega)))]), x, hx, Fx.rf⟩
    · refine r_iload 18 dX0_way_16 rfl lo5 ?_
      refine r_iconst 19 dX0_way_18 rfl ic_m1 ?_
      refine r_icmp_ge 24 22 dX0_way_19 rfl (by decide) (fun hc19 => ?_) (fun hc19 => ?_)
      · refine r_iload_n 25 dX0_way_24 rfl rfl lo3 ?_
        refine r_cS1 28 dX0_way_25 rfl sS_X0_125 (by rfl) ev_X0_isHour ?_
        refine r_if_neB 34 31 dX0_way_28 rfl (by decide) (fun hc28 => ?_) (fun hc28 => ?_)
        · replace hc5 := nb_t hc5
          replace hc13 := nb_t hc13
          obtain ⟨f, hf0, rfl⟩ := isI_nat hc5 hi6
          obtain ⟨t, ht0, rfl⟩ := isI_nat hc13 hi6
          obtain ⟨h, hh, rfl⟩ := hr_ok hc28
          have hq1 : ¬ q.toInt < -1 := by have u := i_le.mp hc19; rw [im1] at u; omega
          refine r_aload_n 35 dX0_way_34 rfl rfl lo0 ?_
          refine r_iload 37 dX0_way_35 rfl lo4 ?_
          refine rx_V1v 40 dX0_way_37 rfl sV_X0_209_0 hx.t (by rfl) (ev_X0_layAll (herd := herd) hx) (fun A hP => ?_)
          obtain ⟨x1, hx, hF, e1, e2, e3, hlv, hJ⟩ := hP
          refine r_aload_n 41 dX0_way_40 rfl rfl lo0 ?_
          refine r_iload_n 42 dX0_way_41 rfl rfl lo1 ?_
          refine r_iload_n 43 dX0_way_42 rfl rfl lo3 ?_
          refine r_iload 45 dX0_way_43 rfl lo4 ?_
          refine rx_V3v 48 dX0_way_45 rfl sV_X0_213_0 hx.t (by rfl) (ev_X0_go (herd := herd) (f := f) (h := h) hx hJ (by omega) (by omega)) (fun A hP => ?_)
          obtain ⟨g, hx, hF2, hg⟩ := hP
          have hF := hF.tr hF2
          have hcl := cp_le (t := bfS S herd f h t)
          refine r_aload_n 49 dX0_way_48 rfl rfl lo0 ?_
          refine r_get 52 dX0_way_49 rfl g_X0_40_0 hx.t lo6 ?_
          refine r_iload_n 53 dX0_way_52 rfl rfl lo2 ?_
          refine r_ialdv 54 dX0_way_53 rfl hx.a15 _ rfl (show g t = _ from hg t ht0) (by omega) (by decide) ?_
          refine r_sipush 57 dX0_way_54 rfl si_2001 ?_
          first | refine r_icmp_neN 63 60 dX0_way_57 rfl (by decide) (by omega) (by omega) (fun hc57 => ?_) (fun hc57 => ?_) | refine r_icmp_ne 63 60 dX0_way_57 rfl (by decide) (fun hc57 => ?_) (fun hc57 => ?_)
          · refine r_iconst 64 dX0_way_63 rfl ic_0 ?_
            refine r_istore 66 dX0_way_64 rfl so6 rfl ?_
            refine r_iload_n 67 dX0_way_66 rfl rfl lo2 ?_
            refine r_istore 69 dX0_way_67 rfl so7 rfl ?_
            have hn2 : ¬ 2000 < bfS S herd f h t := fun u => hc57 (cp_9.mpr u)
            obtain ⟨L, hLL⟩ : ∃ L, L = ways S.2.1 herd S.2.2.1 (bfS S herd f h) f 6 t := ⟨_, rfl⟩
            rw [sp_way_e (L := L) hc5 hc13 hq1 hc28 (by omega) (by omega) (by omega) hn2 hLL]
            have hsn := sn_lt (T := bfS S herd f h) ht0
            exact lp_X0_way (x := xr x1 15 g) (T := bfS S herd f h) (hJ.xr hl10 (by decide)) hg (bf_lst hok (by omega)) (by omega) hf0 hq1 6 t [] A _ (by omega) (by decide) ht0 (by omega) (fun i r hi => by cases hi) (by rw [List.nil_append]; exact hLL) (xr_e hx 16) hF
          · refine r_bipush 62 dX0_way_60 rfl bi_m9 ?_
            exact r_iret dX0_way_62 rfl (Nat.le_refl _) (Nat.le_refl _) ⟨rq (by unfold sp_way; rw [if_neg (fun u => u.elim (fun a => a hc5) (fun u => u.elim (fun a => a hc13) hq1)), if_neg (fun u => u hc28), nI_nat (j := f) (by omega), nI_nat (j := t) (by omega), nI_nat (j := h) (by omega), if_pos (cp_9.mp hc57)]), _, hx, hF⟩
        · refine r_bipush 33 dX0_way_31 rfl bi_m2 ?_
          exact r_iret dX0_way_33 rfl (Nat.le_refl _) (Nat.le_refl _) ⟨rq (by unfold sp_way; rw [if_neg (fun h => h.elim (fun a => a (nb_t hc5)) (fun h => h.elim (fun a => a (nb_t hc13)) (fun a => by have u := i_le.mp hc19; rw [im1] at u; omega))), if_pos (by rw [hc28]; decide)]), x, hx, Fx.rf⟩
      · refine r_iconst 23 dX0_way_22 rfl ic_m1 ?_
        exact r_iret dX0_way_23 rfl (Nat.le_refl _) (Nat.le_refl _) ⟨rq (by unfold sp_way; rw [if_pos (by first | exact Or.inl (by rw [nb_f hc5]; decide) | exact Or.inr (Or.inl (by rw [nb_f hc13]; decide)) | exact Or.inr (Or.inr (by have u : ¬ (-1 : Int32).toInt ≤ q.toInt := fun e => hc19 (i_le.mpr e); rw [im1] at u; omega)))]), x, hx, Fx.rf⟩

