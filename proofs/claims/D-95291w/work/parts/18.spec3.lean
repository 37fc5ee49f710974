/-! switches; how the reference's roads change -/
set_option maxRecDepth 100000
section SW
variable {w : WE} {M : MI} {R : Room} {Z : ZT} {k n : Nat} {A : Hp} {pc : Nat} {lo : List (Option Value)} {st : List Value}
theorem r_tin {dflt lo0 hi0 : Int} {offs : Array Int} {len : Nat} {x : Int32} {off : Int} (z : Int) (tgt : Nat) (hd : decode M.2.1 pc = .ok (.tableswitch dflt lo0 hi0 offs, len)) (hx : x.toInt = z) (h1 : ¬ z < lo0) (h2 : ¬ hi0 < z) (ho : offs[(z - lo0).toNat]? = some off) (ht : (pc : Int) + off = (tgt : Int)) (K : Rn w M R Z k n A tgt lo st) : Rn w M R Z k n A pc lo (.int x :: st) := by
  subst hx
  intro p e s m args below meth c H locs ls C hR hL hl
  exact lv_tableIn C.x C.b hd h1 h2 ho ht (K p e s m args below meth c H locs ls C hR hL hl)
theorem r_tout {dflt lo0 hi0 : Int} {offs : Array Int} {len : Nat} {x : Int32} (tgt : Nat) (hd : decode M.2.1 pc = .ok (.tableswitch dflt lo0 hi0 offs, len)) (h : x.toInt < lo0 ∨ hi0 < x.toInt) (ht : (pc : Int) + dflt = (tgt : Int)) (K : Rn w M R Z k n A tgt lo st) : Rn w M R Z k n A pc lo (.int x :: st) := by
  intro p e s m args below meth c H locs ls C hR hL hl
  exact lv_tableOut C.x C.b hd h ht (K p e s m args below meth c H locs ls C hR hL hl)
theorem r_look {dflt : Int} {ps : Array (Int × Int)} {len : Nat} {x : Int32} {off : Int} (tgt : Nat) (hd : decode M.2.1 pc = .ok (.lookupswitch dflt ps, len)) (hp : (ps.toList.zip (ps.toList.drop 1)).all (fun (a, next) => a.1 < next.1) = true) (ho : Op.lookupswitch.offset ps.toList dflt x.toInt = off) (ht : (pc : Int) + off = (tgt : Int)) (K : Rn w M R Z k n A tgt lo st) : Rn w M R Z k n A pc lo (.int x :: st) := by
  intro p e s m args below meth c H locs ls C hR hL hl
  exact lv_lookup C.x C.b hd hp ho ht (K p e s m args below meth c H locs ls C hR hL hl)
end SW
theorem upd_s {f : Nat → Int32} {k : Nat} {x : Int32} : upd f k x k = x := by simp [upd]
theorem upd_n {f : Nat → Int32} {k j : Nat} {x : Int32} (h : j ≠ k) : upd f k x j = f j := by simp [upd, h]
theorem RdR.mend {m : MT} {isl j : Nat} {rs : List Rd} {q : Rd} (h : RdR m isl rs) (hq : rs[j]? = some q) (hk : q.2.2.2.2.2 + 1 ≤ 10) : RdR (m.1, va_up m.2 15 (upd (m.2 15) j (nI (q.2.2.2.2.2 + 1)))) isl (rs.set j (md q)) := by
  refine ⟨by rw [List.length_set]; exact h.1, by rw [List.length_set]; exact h.2.1, fun i p hp => ?_⟩
  rw [List.getElem?_set] at hp
  by_cases e : j = i
  · subst e
    obtain ⟨h1, h2, h3, h4, h5, h6, o1, o2, o3, o4, o5, o6, o7, o8⟩ := h.2.2 j q hq
    have hlt := (List.getElem?_eq_some_iff.mp hq).1
    rw [if_pos rfl, if_pos hlt] at hp
    cases hp
    exact ⟨h1, h2, h3, h4, h5, (upd_s : upd (m.2 15) j _ j = _), o1, o2, o3, o4, o5, o6, o7, hk⟩
  · rw [if_neg e] at hp
    obtain ⟨h1, h2, h3, h4, h5, h6, h7⟩ := h.2.2 i p hp
    exact ⟨h1, h2, h3, h4, h5, ((upd_n (Ne.symm e)).trans h6 : upd (m.2 15) j _ i = _), h7⟩
theorem RdR.add {m : MT} {isl : Nat} {rs : List Rd} {kd a b bed len : Nat} (h : RdR m isl rs) (hn : rs.length < 10) (hok : RdOk isl (kd, a, b, bed, len, 0)) :
    RdR (va_up m.1 16 (nI (rs.length + 1)), va_up (va_up (va_up (va_up (va_up (va_up m.2 10 (upd (m.2 10) rs.length (nI kd))) 11 (upd (m.2 11) rs.length (nI a))) 12 (upd (m.2 12) rs.length (nI b))) 13 (upd (m.2 13) rs.length (nI bed))) 14 (upd (m.2 14) rs.length (nI len))) 15 (upd (m.2 15) rs.length (nI 0))) isl (rs ++ [(kd, a, b, bed, len, 0)]) := by
  refine ⟨by rw [List.length_append]; rfl, by rw [List.length_append]; exact hn, fun i p hp => ?_⟩
  rw [List.getElem?_append] at hp
  split at hp
  · obtain ⟨h1, h2, h3, h4, h5, h6, h7⟩ := h.2.2 i p hp
    have e : i ≠ rs.length := by omega
    exact ⟨((upd_n e).trans h1 : upd (m.2 10) _ _ i = _), ((upd_n e).trans h2 : upd (m.2 11) _ _ i = _), ((upd_n e).trans h3 : upd (m.2 12) _ _ i = _), ((upd_n e).trans h4 : upd (m.2 13) _ _ i = _), ((upd_n e).trans h5 : upd (m.2 14) _ _ i = _), ((upd_n e).trans h6 : upd (m.2 15) _ _ i = _), h7⟩
  · have hi : i = rs.length := by
      have := (List.getElem?_eq_some_iff.mp hp).1
      simp at this
      omega
    subst hi
    simp at hp
    subst hp
    exact ⟨(upd_s : upd (m.2 10) _ _ _ = _), (upd_s : upd (m.2 11) _ _ _ = _), (upd_s : upd (m.2 12) _ _ _ = _), (upd_s : upd (m.2 13) _ _ _ = _), (upd_s : upd (m.2 14) _ _ _ = _), (upd_s : upd (m.2 15) _ _ _ = _), hok⟩
theorem btw_nat {x : Int32} {a b : Int} (h : btw x.toInt a b = true) (ha : 0 ≤ a) (hb : b < 2147483648) : ∃ z : Nat, a ≤ (z : Int) ∧ (z : Int) ≤ b ∧ x = nI z := by
  have := btw_t.mp h
  exact ⟨x.toInt.toNat, by omega, by omega, i_of (by omega) (by omega)⟩
