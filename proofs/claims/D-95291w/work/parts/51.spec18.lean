/-! what the reference holds while it reads a sea -/
set_option maxRecDepth 100000
def RdM (m0 m : MT) (p r : Nat) (g7 g8 g9 : Nat → Int32) : Prop := m.1 10 = nI p ∧ m.1 12 = nI r ∧ m.2 7 = g7 ∧ m.2 8 = g8 ∧ m.2 9 = g9 ∧ (∀ k, k ≠ 10 → k ≠ 12 → m.1 k = m0.1 k) ∧ ∀ k, k ≠ 7 → k ≠ 8 → k ≠ 9 → m.2 k = m0.2 k
theorem Ev.post {w : WE} {M : MI} {d mc ms : Nat} {As : List Value} {A : Hp} {Qo Qo' : Option Value → Hp → Prop} (h : Ev w M d mc ms As A Qo) (hq : ∀ v A', Qo v A' → Qo' v A') : Ev w M d mc ms As A Qo' := by
  intro p e h1 h2 h3 s m args below h4 h5 h6 h7
  obtain ⟨n, o, a1, a2, a3, a4, a5⟩ := h p e h1 h2 h3 s m args below h4 h5 h6 h7
  obtain ⟨v, A', b1, b2, b3⟩ := a4
  exact ⟨n, o, a1, a2, a3, ⟨v, A', b1, b2, hq v A' b3⟩, a5⟩
section RDM
variable {m0 m : MT} {p r : Nat} {g7 g8 g9 : Nat → Int32}
theorem RdM.hp (h : RdM m0 m p r g7 g8 g9) : m.1 10 = nI p := h.1
theorem RdM.hr (h : RdM m0 m p r g7 g8 g9) : m.1 12 = nI r := h.2.1
theorem RdM.c3 (h : RdM m0 m p r g7 g8 g9) : m.2 3 = m0.2 3 := h.2.2.2.2.2.2 3 (by decide) (by decide) (by decide)
theorem RdM.wat (h : RdM m0 m p r g7 g8 g9) (x : Nat) : RdM m0 (va_up m.1 10 (nI x), m.2) x r g7 g8 g9 := by
  obtain ⟨a1, a2, a3, a4, a5, a6, a7⟩ := h
  exact ⟨by simp [va_up], by simp [va_up]; exact a2, a3, a4, a5, fun k h1 h2 => by simp [va_up, h1]; exact a6 k h1 h2, a7⟩
theorem RdM.wrm (h : RdM m0 m p r g7 g8 g9) (x : Nat) : RdM m0 (va_up m.1 12 (nI x), m.2) p x g7 g8 g9 := by
  obtain ⟨a1, a2, a3, a4, a5, a6, a7⟩ := h
  exact ⟨by simp [va_up]; exact a1, by simp [va_up], a3, a4, a5, fun k h1 h2 => by simp [va_up, h2]; exact a6 k h1 h2, a7⟩
theorem RdM.w7 (h : RdM m0 m p r g7 g8 g9) (i : Nat) (x : Int32) : RdM m0 (m.1, va_up m.2 7 (upd (m.2 7) i x)) p r (upd g7 i x) g8 g9 := by
  obtain ⟨a1, a2, a3, a4, a5, a6, a7⟩ := h
  exact ⟨a1, a2, by simp [va_up, a3], by simp [va_up]; exact a4, by simp [va_up]; exact a5, a6, fun k h1 h2 h3 => by simp [va_up, h1]; exact a7 k h1 h2 h3⟩
theorem RdM.w8 (h : RdM m0 m p r g7 g8 g9) (i : Nat) (x : Int32) : RdM m0 (m.1, va_up m.2 8 (upd (m.2 8) i x)) p r g7 (upd g8 i x) g9 := by
  obtain ⟨a1, a2, a3, a4, a5, a6, a7⟩ := h
  exact ⟨a1, a2, by simp [va_up]; exact a3, by simp [va_up, a4], by simp [va_up]; exact a5, a6, fun k h1 h2 h3 => by simp [va_up, h2]; exact a7 k h1 h2 h3⟩
theorem RdM.w9 (h : RdM m0 m p r g7 g8 g9) (i : Nat) (x : Int32) : RdM m0 (m.1, va_up m.2 9 (upd (m.2 9) i x)) p r g7 g8 (upd g9 i x) := by
  obtain ⟨a1, a2, a3, a4, a5, a6, a7⟩ := h
  exact ⟨a1, a2, by simp [va_up]; exact a3, by simp [va_up]; exact a4, by simp [va_up, a5], a6, fun k h1 h2 h3 => by simp [va_up, h3]; exact a7 k h1 h2 h3⟩
theorem RdM.e7 (h : RdM m0 m p r g7 g8 g9) : m.2 7 = g7 := h.2.2.1
theorem RdM.e8 (h : RdM m0 m p r g7 g8 g9) : m.2 8 = g8 := h.2.2.2.1
theorem RdM.e9 (h : RdM m0 m p r g7 g8 g9) : m.2 9 = g9 := h.2.2.2.2.1
theorem RdM.v7 {i : Nat} {x : Int32} (h : RdM m0 m p r (upd g7 i x) g8 g9) : m.2 7 i = x := by rw [h.e7, upd_s]
theorem RdM.v8 {i : Nat} {x : Int32} (h : RdM m0 m p r g7 (upd g8 i x) g9) : m.2 8 i = x := by rw [h.e8, upd_s]
theorem RdM.v9 {i : Nat} {x : Int32} (h : RdM m0 m p r g7 g8 (upd g9 i x)) : m.2 9 i = x := by rw [h.e9, upd_s]
variable {w : WE} {A : Hp} {e : Nat}
theorem ev_rd_code {x : Int32} (h : RdM m0 m p r g7 g8 g9) (hm : MR w A m) (he : e ≤ 240) (hp2 : p ≤ 1000) : EvI w mX1_isCode 1 [.ref (mb w), .int x, .int (nI e)] A (bI (decide (p < e ∧ m0.2 3 p = x))) := by
  have z := ev_X1_isCode (x := x) hm h.hp he hp2
  rw [h.c3] at z
  exact z
theorem ev_rd_dig {d : Option Nat} (h : RdM m0 m p r g7 g8 g9) (hm : MR w A m) (he : e ≤ 240) (hp2 : p ≤ 1000) (hd : dg (m0.2 3) e p = d) : EvI w mX1_digitAt 2 [.ref (mb w), .int (nI p), .int (nI e)] A (dgI d) := by
  have z := ev_X1_digitAt hm he hp2
  rw [h.c3, hd] at z
  exact z
theorem ev_rd_td {l t : Nat} {z : Sum Nat Nat} (h : RdM m0 m p r g7 g8 g9) (hm : MR w A m) (he : e ≤ 240) (hp2 : p ≤ 900) (hl : l ≤ 100) (hh : t ≤ 100) (hz : td (m0.2 3) e p l t = z) : EvMi w mX1_twoDigits 3 [.ref (mb w), .int (nI e), .int (nI l), .int (nI t)] A (tdV z) (fun m' => RdM m0 m' (tdP p z) r g7 g8 g9) := by
  have y := ev_X1_twoDigits hm h.hp he hp2 hl hh
  rw [h.c3, hz] at y
  exact y.post (fun v A' q => by
    obtain ⟨m', ⟨q1, q2⟩, q3, q4⟩ := q
    subst q2
    exact ⟨_, ⟨q1, h.wat _⟩, q3, q4⟩)
end RDM
