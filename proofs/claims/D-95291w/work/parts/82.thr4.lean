/-! rows on rows of any lane: loads, stores, casts, instanceof; where they throw -/
set_option maxRecDepth 100000
def rOk (R : Room) (k n cc ss : Nat) (st : List Value) : Bool := decide (7 < R.frames) && decide ((st.map fun v => v.category).sum + 10240 ≤ R.locals) && decide (k + cc ≤ R.cells) && decide (n + ss ≤ R.slots)
theorem rOk_s {R : Room} {k n cc ss : Nat} {st : List Value} (h : rOk R k n cc ss st = true) : 7 < R.frames ∧ (st.map fun v => v.category).sum + 10240 ≤ R.locals ∧ k + cc ≤ R.cells ∧ n + ss ≤ R.slots := by
  unfold rOk at h
  simp only [Bool.and_eq_true, decide_eq_true_eq] at h
  exact ⟨h.1.1.1, h.1.1.2, h.1.2, h.2⟩
def laT : Nat → FieldType
  | 0 => .int
  | 1 => .byte
  | _ => .short
def laN : Nat → String
  | 0 => "[I"
  | 1 => "[B"
  | _ => "[S"
theorem laA {w : WE} {t : Nat} (h : t ≤ 2) : (tyA w)[t]? = some (w.2.2.1 t, laT t) := by
  match t, h with
  | 0, _ => rfl
  | 1, _ => rfl
  | 2, _ => rfl
theorem laF {w : WE} {s : State} {t : Nat} (hK : KW w s) (h : t ≤ 2) : s.vm.findClass (laN t) = some (w.2.2.1 t) := by
  match t, h with
  | 0, _ => exact (hK.K.2 0 _ rfl).2
  | 1, _ => exact (hK.K.2 1 _ rfl).2
  | 2, _ => exact (hK.K.2 2 _ rfl).2
theorem asg_r (vm : Vm) (c : ClassId) : vm.assignable c c = true := va_asg _ _
theorem laX {w : WE} {s : State} {t u : Nat} (hK : KW w s) (h : t ≤ 2) (h2 : u ≤ 2) (hne : t ≠ u) : s.vm.assignable (w.2.2.1 t) (w.2.2.1 u) = false := by
  have ha := hK.2.2.2.alike
  have h0 : KW w (ws0 w) := ⟨hK.1, hK.2.1, hK.2.2.1, Jvm.State.WarmedH.refl _⟩
  rw [ha.assignable]
  match t, u, h, h2, hne with
  | 0, 1, _, _, _ => exact ncast (X := "[I") (C := "[B") (an2 (an2 (an1 (an2 (an1 (an1 (an2 (an1 (an2 (an2 hK.2.1)))))))))) (laF (t := 0) h0 (by decide)) (laF (t := 1) h0 (by decide))
  | 0, 2, _, _, _ => exact ncast (X := "[I") (C := "[S") (an1 (an1 (an1 (an2 (an2 (an2 (an1 (an2 (an2 hK.2.1))))))))) (laF (t := 0) h0 (by decide)) (laF (t := 2) h0 (by decide))
  | 1, 0, _, _, _ => exact ncast (X := "[B") (C := "[I") (an1 (an1 (an2 (an2 (an1 (an1 (an2 (an2 (an2 hK.2.1))))))))) (laF (t := 1) h0 (by decide)) (laF (t := 0) h0 (by decide))
  | 1, 2, _, _, _ => exact ncast (X := "[B") (C := "[S") (an1 (an2 (an1 (an2 (an2 (an2 (an1 (an2 (an2 hK.2.1))))))))) (laF (t := 1) h0 (by decide)) (laF (t := 2) h0 (by decide))
  | 2, 0, _, _, _ => exact ncast (X := "[S") (C := "[I") (an1 (an2 (an1 (an2 (an2 (an1 (an1 (an2 (an2 (an2 hK.2.1)))))))))) (laF (t := 2) h0 (by decide)) (laF (t := 0) h0 (by decide))
  | 2, 1, _, _, _ => exact ncast (X := "[S") (C := "[B") (an1 (an2 (an2 (an2 (an1 (an1 (an2 (an1 (an2 (an2 hK.2.1)))))))))) (laF (t := 2) h0 (by decide)) (laF (t := 1) h0 (by decide))
  | 0, 0, _, _, hne => exact absurd rfl hne
  | 1, 1, _, _, hne => exact absurd rfl hne
  | 2, 2, _, _, hne => exact absurd rfl hne
section LANES
variable {w : WE} {M : MI} {R : Room} {Z : ZT} {k n : Nat} {A : Hp} {pc : Nat} {lo : List (Option Value)} {st : List Value}
theorem rz_n (hT : TR w) (hr : rOk R k n 1 8 st = true) (K : Rt w M R Z (k + 1) (n + 8) (A.1, A.2 + 1) pc lo "java/lang/NullPointerException") : Rz w M R Z k n A pc lo st (.throwNew "java/lang/NullPointerException" none none) :=
  rz_npe hT (rOk_s hr).1 (rOk_s hr).2.1 (rOk_s hr).2.2.1 (rOk_s hr).2.2.2 K
theorem r_ialoadX {i : Int32} (hd : decode M.2.1 pc = .ok (.iaload, 1)) (hT : TR w) (hr : rOk R k n 1 8 st = true) (K : Rt w M R Z (k + 1) (n + 8) (A.1, A.2 + 1) pc lo "java/lang/NullPointerException") : Rn w M R Z k n A pc lo (.int i :: .null :: st) := by
  intro p e s m args below meth c H locs ls C hR hL hl T hTH X
  obtain ⟨t, a1, b1⟩ := rz_n hT hr K p e s m args below meth c H locs ls C hR hL hl T hTH X
  exact ⟨t, X.ialoadNull C.x (g := F0 m pc ls (.int i :: .null :: st)) rfl rfl (by rw [C.b]; exact hd) t a1, b1⟩
theorem r_baloadX {i : Int32} (hd : decode M.2.1 pc = .ok (.baload, 1)) (hT : TR w) (hr : rOk R k n 1 8 st = true) (K : Rt w M R Z (k + 1) (n + 8) (A.1, A.2 + 1) pc lo "java/lang/NullPointerException") : Rn w M R Z k n A pc lo (.int i :: .null :: st) := by
  intro p e s m args below meth c H locs ls C hR hL hl T hTH X
  obtain ⟨t, a1, b1⟩ := rz_n hT hr K p e s m args below meth c H locs ls C hR hL hl T hTH X
  exact ⟨t, X.baloadNull C.x (g := F0 m pc ls (.int i :: .null :: st)) rfl rfl (by rw [C.b]; exact hd) t a1, b1⟩
theorem r_saloadX {i : Int32} (hd : decode M.2.1 pc = .ok (.saload, 1)) (hT : TR w) (hr : rOk R k n 1 8 st = true) (K : Rt w M R Z (k + 1) (n + 8) (A.1, A.2 + 1) pc lo "java/lang/NullPointerException") : Rn w M R Z k n A pc lo (.int i :: .null :: st) := by
  intro p e s m args below meth c H locs ls C hR hL hl T hTH X
  obtain ⟨t, a1, b1⟩ := rz_n hT hr K p e s m args below meth c H locs ls C hR hL hl T hTH X
  exact ⟨t, X.saloadNull C.x (g := F0 m pc ls (.int i :: .null :: st)) rfl rfl (by rw [C.b]; exact hd) t a1, b1⟩
theorem r_iastoreX {i x : Int32} (hd : decode M.2.1 pc = .ok (.iastore, 1)) (hT : TR w) (hr : rOk R k n 1 8 st = true) (K : Rt w M R Z (k + 1) (n + 8) (A.1, A.2 + 1) pc lo "java/lang/NullPointerException") : Rn w M R Z k n A pc lo (.int x :: .int i :: .null :: st) := by
  intro p e s m args below meth c H locs ls C hR hL hl T hTH X
  obtain ⟨t, a1, b1⟩ := rz_n hT hr K p e s m args below meth c H locs ls C hR hL hl T hTH X
  exact ⟨t, X.iastoreNull C.x (g := F0 m pc ls (.int x :: .int i :: .null :: st)) rfl rfl (by rw [C.b]; exact hd) t a1, b1⟩
theorem r_bastoreX {i x : Int32} (hd : decode M.2.1 pc = .ok (.bastore, 1)) (hT : TR w) (hr : rOk R k n 1 8 st = true) (K : Rt w M R Z (k + 1) (n + 8) (A.1, A.2 + 1) pc lo "java/lang/NullPointerException") : Rn w M R Z k n A pc lo (.int x :: .int i :: .null :: st) := by
  intro p e s m args below meth c H locs ls C hR hL hl T hTH X
  obtain ⟨t, a1, b1⟩ := rz_n hT hr K p e s m args below meth c H locs ls C hR hL hl T hTH X
  exact ⟨t, X.bastoreNull C.x (g := F0 m pc ls (.int x :: .int i :: .null :: st)) rfl rfl (by rw [C.b]; exact hd) t a1, b1⟩
theorem r_sastoreX {i x : Int32} (hd : decode M.2.1 pc = .ok (.sastore, 1)) (hT : TR w) (hr : rOk R k n 1 8 st = true) (K : Rt w M R Z (k + 1) (n + 8) (A.1, A.2 + 1) pc lo "java/lang/NullPointerException") : Rn w M R Z k n A pc lo (.int x :: .int i :: .null :: st) := by
  intro p e s m args below meth c H locs ls C hR hL hl T hTH X
  obtain ⟨t, a1, b1⟩ := rz_n hT hr K p e s m args below meth c H locs ls C hR hL hl T hTH X
  exact ⟨t, X.sastoreNull C.x (g := F0 m pc ls (.int x :: .int i :: .null :: st)) rfl rfl (by rw [C.b]; exact hd) t a1, b1⟩
theorem r_alenX (hd : decode M.2.1 pc = .ok (.arraylength, 1)) (hT : TR w) (hr : rOk R k n 1 8 st = true) (K : Rt w M R Z (k + 1) (n + 8) (A.1, A.2 + 1) pc lo "java/lang/NullPointerException") : Rn w M R Z k n A pc lo (.null :: st) := by
  intro p e s m args below meth c H locs ls C hR hL hl T hTH X
  obtain ⟨t, a1, b1⟩ := rz_n hT hr K p e s m args below meth c H locs ls C hR hL hl T hTH X
  exact ⟨t, X.arraylengthNull C.x (g := F0 m pc ls (.null :: st)) rfl rfl (by rw [C.b]; exact hd) t a1, b1⟩
theorem r_ialoadO {i : Int32} {u N a : Nat} {f : Nat → Int32} (hd : decode M.2.1 pc = .ok (.iaload, 1)) (hu : u ≤ 2) (hA : A.1 a = some (eI w u N f)) (hN : N < 2 ^ 31) (ho : i < 0 ∨ N ≤ i.toNatClampNeg) (hT : TR w) (hr : rOk R k n 3 222 st = true) (K : Rt w M R Z (k + 3) (n + 222) (A.1, A.2 + 3) pc lo "java/lang/ArrayIndexOutOfBoundsException") : Rn w M R Z k n A pc lo (.int i :: .ref a :: st) := by
  intro p e s m args below meth c H locs ls C hR hL hl T hTH X
  have hat : H[a]? = some (vp_cell (w.2.2.1 u) (N, .inl f)) := hR.at hA
  have hsz : (vp_cell (w.2.2.1 u) (N, .inl f)).slots.size = N := arrV_size _ _ _
  obtain ⟨t, a1, b1⟩ := rz_msg 212 xwAI (index_text_modelled i (vp_cell (w.2.2.1 u) (N, .inl f)).slots.size) (index_text_bytes i (by rw [hsz]; exact hN)) (by decide) hT (rOk_s hr).1 (rOk_s hr).2.1 (rOk_s hr).2.2.1 (rOk_s hr).2.2.2 K p e s m args below meth c H locs ls C hR hL hl T hTH X
  exact ⟨t, X.ialoadOut C.x (by rw [hTH]; exact hat) ((C.k.K.2 u _ (laA hu)).1 N (fun j => .int (f j))) (by rw [arrV_size]; exact ho) (g := F0 m pc ls (.int i :: .ref a :: st)) rfl rfl (by rw [C.b]; exact hd) t a1, b1⟩
theorem r_baloadO {i : Int32} {u N a : Nat} {f : Nat → Int32} (hd : decode M.2.1 pc = .ok (.baload, 1)) (hu : u ≤ 2) (hA : A.1 a = some (eI w u N f)) (hN : N < 2 ^ 31) (ho : i < 0 ∨ N ≤ i.toNatClampNeg) (hT : TR w) (hr : rOk R k n 3 222 st = true) (K : Rt w M R Z (k + 3) (n + 222) (A.1, A.2 + 3) pc lo "java/lang/ArrayIndexOutOfBoundsException") : Rn w M R Z k n A pc lo (.int i :: .ref a :: st) := by
  intro p e s m args below meth c H locs ls C hR hL hl T hTH X
  have hat : H[a]? = some (vp_cell (w.2.2.1 u) (N, .inl f)) := hR.at hA
  have hsz : (vp_cell (w.2.2.1 u) (N, .inl f)).slots.size = N := arrV_size _ _ _
  obtain ⟨t, a1, b1⟩ := rz_msg 212 xwAI (index_text_modelled i (vp_cell (w.2.2.1 u) (N, .inl f)).slots.size) (index_text_bytes i (by rw [hsz]; exact hN)) (by decide) hT (rOk_s hr).1 (rOk_s hr).2.1 (rOk_s hr).2.2.1 (rOk_s hr).2.2.2 K p e s m args below meth c H locs ls C hR hL hl T hTH X
  exact ⟨t, X.baloadOut C.x (by rw [hTH]; exact hat) ((C.k.K.2 u _ (laA hu)).1 N (fun j => .int (f j))) (by rw [arrV_size]; exact ho) (g := F0 m pc ls (.int i :: .ref a :: st)) rfl rfl (by rw [C.b]; exact hd) t a1, b1⟩
theorem r_saloadO {i : Int32} {u N a : Nat} {f : Nat → Int32} (hd : decode M.2.1 pc = .ok (.saload, 1)) (hu : u ≤ 2) (hA : A.1 a = some (eI w u N f)) (hN : N < 2 ^ 31) (ho : i < 0 ∨ N ≤ i.toNatClampNeg) (hT : TR w) (hr : rOk R k n 3 222 st = true) (K : Rt w M R Z (k + 3) (n + 222) (A.1, A.2 + 3) pc lo "java/lang/ArrayIndexOutOfBoundsException") : Rn w M R Z k n A pc lo (.int i :: .ref a :: st) := by
  intro p e s m args below meth c H locs ls C hR hL hl T hTH X
  have hat : H[a]? = some (vp_cell (w.2.2.1 u) (N, .inl f)) := hR.at hA
  have hsz : (vp_cell (w.2.2.1 u) (N, .inl f)).slots.size = N := arrV_size _ _ _
  obtain ⟨t, a1, b1⟩ := rz_msg 212 xwAI (index_text_modelled i (vp_cell (w.2.2.1 u) (N, .inl f)).slots.size) (index_text_bytes i (by rw [hsz]; exact hN)) (by decide) hT (rOk_s hr).1 (rOk_s hr).2.1 (rOk_s hr).2.2.1 (rOk_s hr).2.2.2 K p e s m args below meth c H locs ls C hR hL hl T hTH X
  exact ⟨t, X.saloadOut C.x (by rw [hTH]; exact hat) ((C.k.K.2 u _ (laA hu)).1 N (fun j => .int (f j))) (by rw [arrV_size]; exact ho) (g := F0 m pc ls (.int i :: .ref a :: st)) rfl rfl (by rw [C.b]; exact hd) t a1, b1⟩
theorem r_iastoreO {i x : Int32} {u N a : Nat} {f : Nat → Int32} (hd : decode M.2.1 pc = .ok (.iastore, 1)) (hu : u ≤ 2) (hA : A.1 a = some (eI w u N f)) (hN : N < 2 ^ 31) (ho : i < 0 ∨ N ≤ i.toNatClampNeg) (hT : TR w) (hr : rOk R k n 3 222 st = true) (K : Rt w M R Z (k + 3) (n + 222) (A.1, A.2 + 3) pc lo "java/lang/ArrayIndexOutOfBoundsException") : Rn w M R Z k n A pc lo (.int x :: .int i :: .ref a :: st) := by
  intro p e s m args below meth c H locs ls C hR hL hl T hTH X
  have hat : H[a]? = some (vp_cell (w.2.2.1 u) (N, .inl f)) := hR.at hA
  have hsz : (vp_cell (w.2.2.1 u) (N, .inl f)).slots.size = N := arrV_size _ _ _
  obtain ⟨t, a1, b1⟩ := rz_msg 212 xwAI (index_text_modelled i (vp_cell (w.2.2.1 u) (N, .inl f)).slots.size) (index_text_bytes i (by rw [hsz]; exact hN)) (by decide) hT (rOk_s hr).1 (rOk_s hr).2.1 (rOk_s hr).2.2.1 (rOk_s hr).2.2.2 K p e s m args below meth c H locs ls C hR hL hl T hTH X
  exact ⟨t, X.iastoreOut C.x (by rw [hTH]; exact hat) ((C.k.K.2 u _ (laA hu)).1 N (fun j => .int (f j))) (by rw [arrV_size]; exact ho) (g := F0 m pc ls (.int x :: .int i :: .ref a :: st)) rfl rfl (by rw [C.b]; exact hd) t a1, b1⟩
theorem r_bastoreO {i x : Int32} {u N a : Nat} {f : Nat → Int32} (hd : decode M.2.1 pc = .ok (.bastore, 1)) (hu : u ≤ 2) (hA : A.1 a = some (eI w u N f)) (hN : N < 2 ^ 31) (ho : i < 0 ∨ N ≤ i.toNatClampNeg) (hT : TR w) (hr : rOk R k n 3 222 st = true) (K : Rt w M R Z (k + 3) (n + 222) (A.1, A.2 + 3) pc lo "java/lang/ArrayIndexOutOfBoundsException") : Rn w M R Z k n A pc lo (.int x :: .int i :: .ref a :: st) := by
  intro p e s m args below meth c H locs ls C hR hL hl T hTH X
  have hat : H[a]? = some (vp_cell (w.2.2.1 u) (N, .inl f)) := hR.at hA
  have hsz : (vp_cell (w.2.2.1 u) (N, .inl f)).slots.size = N := arrV_size _ _ _
  obtain ⟨t, a1, b1⟩ := rz_msg 212 xwAI (index_text_modelled i (vp_cell (w.2.2.1 u) (N, .inl f)).slots.size) (index_text_bytes i (by rw [hsz]; exact hN)) (by decide) hT (rOk_s hr).1 (rOk_s hr).2.1 (rOk_s hr).2.2.1 (rOk_s hr).2.2.2 K p e s m args below meth c H locs ls C hR hL hl T hTH X
  exact ⟨t, X.bastoreOut C.x (by rw [hTH]; exact hat) ((C.k.K.2 u _ (laA hu)).1 N (fun j => .int (f j))) (by rw [arrV_size]; exact ho) (g := F0 m pc ls (.int x :: .int i :: .ref a :: st)) rfl rfl (by rw [C.b]; exact hd) t a1, b1⟩
theorem r_sastoreO {i x : Int32} {u N a : Nat} {f : Nat → Int32} (hd : decode M.2.1 pc = .ok (.sastore, 1)) (hu : u ≤ 2) (hA : A.1 a = some (eI w u N f)) (hN : N < 2 ^ 31) (ho : i < 0 ∨ N ≤ i.toNatClampNeg) (hT : TR w) (hr : rOk R k n 3 222 st = true) (K : Rt w M R Z (k + 3) (n + 222) (A.1, A.2 + 3) pc lo "java/lang/ArrayIndexOutOfBoundsException") : Rn w M R Z k n A pc lo (.int x :: .int i :: .ref a :: st) := by
  intro p e s m args below meth c H locs ls C hR hL hl T hTH X
  have hat : H[a]? = some (vp_cell (w.2.2.1 u) (N, .inl f)) := hR.at hA
  have hsz : (vp_cell (w.2.2.1 u) (N, .inl f)).slots.size = N := arrV_size _ _ _
  obtain ⟨t, a1, b1⟩ := rz_msg 212 xwAI (index_text_modelled i (vp_cell (w.2.2.1 u) (N, .inl f)).slots.size) (index_text_bytes i (by rw [hsz]; exact hN)) (by decide) hT (rOk_s hr).1 (rOk_s hr).2.1 (rOk_s hr).2.2.1 (rOk_s hr).2.2.2 K p e s m args below meth c H locs ls C hR hL hl T hTH X
  exact ⟨t, X.sastoreOut C.x (by rw [hTH]; exact hat) ((C.k.K.2 u _ (laA hu)).1 N (fun j => .int (f j))) (by rw [arrV_size]; exact ho) (g := F0 m pc ls (.int x :: .int i :: .ref a :: st)) rfl rfl (by rw [C.b]; exact hd) t a1, b1⟩
theorem r_newX {i : Int32} {atype : ArrayType} (hd : decode M.2.1 pc = .ok (.newarray atype, 2)) (hi : i < 0) (hT : TR w) (hr : rOk R k n 3 54 st = true) (K : Rt w M R Z (k + 3) (n + 54) (A.1, A.2 + 3) pc lo "java/lang/NegativeArraySizeException") : Rn w M R Z k n A pc lo (.int i :: st) := by
  intro p e s m args below meth c H locs ls C hR hL hl T hTH X
  obtain ⟨t, a1, b1⟩ := rz_msg 44 xwNA (negative_text_modelled hi) (negative_text_bytes i) (by decide) hT (rOk_s hr).1 (rOk_s hr).2.1 (rOk_s hr).2.2.1 (rOk_s hr).2.2.2 K p e s m args below meth c H locs ls C hR hL hl T hTH X
  exact ⟨t, X.newarrayNegative C.x (g := F0 m pc ls (.int i :: st)) rfl hi rfl (by rw [C.b]; exact hd) t a1, b1⟩
theorem r_castA {idx u a N : Nat} {f : Nat → Int32} (nx : Nat) (hd : decode M.2.1 pc = .ok (.checkcast idx, 3)) (hn : pc + 3 = nx) (hu : u ≤ 2) (hl : Jvm.Cond.classLink M.1.cls idx (laN u) ∈ lw_all) (hA : A.1 a = some (eI w u N f)) (K : Rn w M R Z k n A nx lo (.ref a :: st)) : Rn w M R Z k n A pc lo (.ref a :: st) := by
  subst hn
  intro p e s m args below meth c H locs ls C hR hL hlo
  exact va_castA C.x C.b C.own (C.ts _ hl) (rp_one hR hA) 0 rfl (laF C.k hu) hd (K p e s m args below meth c H locs ls C hR hL hlo)
theorem r_castN {idx : Nat} (nx : Nat) (hd : decode M.2.1 pc = .ok (.checkcast idx, 3)) (hn : pc + 3 = nx) (K : Rn w M R Z k n A nx lo (.null :: st)) : Rn w M R Z k n A pc lo (.null :: st) := by
  subst hn
  intro p e s m args below meth c H locs ls C hR hL hl T hTH X
  obtain ⟨t, a1, b1⟩ := K p e s m args below meth c H locs ls C hR hL hl T hTH X
  exact ⟨t, X.checkcastNull C.x (g := F0 m pc ls (.null :: st)) rfl rfl (by rw [C.b]; exact hd) t a1, b1⟩
theorem r_instN0 {idx : Nat} (nx : Nat) (hd : decode M.2.1 pc = .ok (.instanceof idx, 3)) (hn : pc + 3 = nx) (K : Rn w M R Z k n A nx lo (.int 0 :: st)) : Rn w M R Z k n A pc lo (.null :: st) := by
  subst hn
  intro p e s m args below meth c H locs ls C hR hL hl T hTH X
  obtain ⟨t, a1, b1⟩ := K p e s m args below meth c H locs ls C hR hL hl T hTH X
  exact ⟨t, X.instanceofNull C.x (g := F0 m pc ls (.null :: st)) rfl rfl (by rw [C.b]; exact hd) t a1, b1⟩
theorem r_instA {idx u v a N : Nat} {f : Nat → Int32} (nx : Nat) (hd : decode M.2.1 pc = .ok (.instanceof idx, 3)) (hn : pc + 3 = nx) (hu : u ≤ 2) (hv : v ≤ 2) (hl : Jvm.Cond.classLink M.1.cls idx (laN u) ∈ lw_all) (hA : A.1 a = some (eI w v N f)) (K : Rn w M R Z k n A nx lo (.int (if v = u then 1 else 0) :: st)) : Rn w M R Z k n A pc lo (.ref a :: st) := by
  subst hn
  intro p e s m args below meth c H locs ls C hR hL hlo T hTH X
  subst hTH
  have hat : T.heap[a]? = some (vp_cell (w.2.2.1 v) (N, .inl f)) := hR.at hA
  by_cases e1 : v = u
  · subst e1
    rw [if_pos rfl] at K
    obtain ⟨vm', X', hst⟩ := X.instanceofYes C.x C.own (C.ts _ hl) hat rfl (laF C.k hu) (asg_r _ _) (g := F0 m pc ls (.ref a :: st)) rfl rfl (by rw [C.b]; exact hd)
    obtain ⟨t, a1, b1⟩ := K p e s m args below meth c T.heap locs ls C hR hL hlo (T.setVm vm') rfl X'
    exact ⟨t, hst t a1, b1⟩
  · rw [if_neg e1] at K
    obtain ⟨ks, hks⟩ := Vm.classAt_of_findClass (laF C.k hv)
    obtain ⟨vm', X', hst⟩ := va_instofNo X C.x C.own (C.ts _ hl) (cell := vp_cell (w.2.2.1 v) (N, .inl f)) (by exact hat) rfl hks (laF C.k hu) (laX C.k hv hu e1) (g := F0 m pc ls (.ref a :: st)) rfl rfl (by rw [C.b]; exact hd)
    obtain ⟨t, a1, b1⟩ := K p e s m args below meth c T.heap locs ls C hR hL hlo (T.setVm vm') rfl X'
    exact ⟨t, hst t a1, b1⟩
end LANES
section LANES2
variable {w : WE} {M : MI} {R : Room} {Z : ZT} {k n : Nat} {A : Hp} {pc : Nat} {lo : List (Option Value)} {st : List Value}
theorem hup_lane {w : WE} {A : Hp} {T : State} {a N u j : Nat} {f : Nat → Int32} {y : Int32} (hR : Rp w A T.heap) (hb : wb w ≤ a) (hA : A.1 a = some (eI w u N f)) : Rp w (hp_up A a (eI w u N (upd f j y))) (T.setCell a ((vp_cell (w.2.2.1 u) (N, .inl f)).setSlot j (.int y))).heap := by
  have hlt : a < T.heap.size := by
    rw [hR.1]
    exact hR.lt _ _ hA
  refine hR.up hb ?_ (size_setCell _ _ _) (fun q hq => heapAt_setCell_ne _ (Ne.symm hq))
  show (T.setCell a _).heap[a]? = some (vp_cell _ _)
  rw [heapAt_setCell_self _ hlt, vp_cell_i, vp_cell_i, arrV_store]
  congr 2
  funext q
  by_cases hq : q = j
  · subst hq
    simp [updV, upd]
  · simp [updV, upd, hq]
theorem fit_lane {w : WE} {T s : State} {u N j : Nat} {f : Nat → Int32} {y : Int32} {ty : FieldType} (hal : s.vm.Alike T.vm) (harr : s.isArrayOf (vp_cell (w.2.2.1 u) (N, .inl f)) ty) (hf : fits ty (.int y) = true) : T.fitsSlot (vp_cell (w.2.2.1 u) (N, .inl f)).cls (vp_cell (w.2.2.1 u) (N, .inl f)).vm j (.int y) = true := by
  obtain ⟨hobj, kk, hk, comp, hkind⟩ := State.isArrayOf_alike hal harr
  show T.fitsSlot _ .none _ _ = true
  simp [State.fitsSlot, State.slotType?, hk, hkind, hf]
theorem r_bast {a N : Nat} {f : Nat → Int32} {i x y : Int32} (nx : Nat) (hd : decode M.2.1 pc = .ok (.bastore, 1)) (hn : pc + 1 = nx) (hA : A.1 a = some (eI w 1 N f)) (hb : wb w ≤ a) (j : Nat) (hi : i = nI j) (hj : j < N) (hN : N < 2 ^ 31) (hy : narrow .byte (.int x) = .int y) (hf : fits .byte (.int y) = true) (K : Rn w M R Z k n (hp_up A a (eI w 1 N (upd f j y))) nx lo st) : Rn w M R Z k n A pc lo (.int x :: .int i :: .ref a :: st) := by
  subst hn
  subst hi
  intro p e s m args below meth c H locs ls C hR hL hl T hTH X
  subst hTH
  have hat : T.heap[a]? = some (vp_cell (w.2.2.1 1) (N, .inl f)) := hR.at hA
  have hcl := nI_clamp (n := j) (by omega)
  have harr : s.isArrayOf (vp_cell (w.2.2.1 1) (N, .inl f)) .byte := (C.k.K.2 1 _ rfl).1 N (fun j => .int (f j))
  have hT := State.isArrayOf_alike X.warmed.alike harr
  have hin : ¬ (nI j < 0 ∨ (vp_cell (w.2.2.1 1) (N, .inl f)).slots.size ≤ (nI j).toNatClampNeg) := by
    show ¬ (nI j < 0 ∨ (arrV _ _ _).slots.size ≤ _)
    rw [arrV_size]
    exact vp_in_nI hj hN
  have hfit := fit_lane (j := (nI j).toNatClampNeg) X.warmed.alike harr hf
  have hd' : decode c.code pc = .ok (.bastore, 1) := by rw [C.b]; exact hd
  obtain ⟨t, a1, b1⟩ := K p e s m args below meth c _ _ ls C (hup_lane (j := j) (y := y) hR hb hA) (lc_app (i := j) hL hb) hl _ rfl (X.stored hat j (.int y))
  refine ⟨t, ?_, b1⟩
  have hexec := C.x
  jvm_step X.here [hexec, hd', bastore.wp_sem]
  refine ⟨x, nI j, .ref a, st, ⟨rfl, rfl, rfl, rfl⟩, _, hat, hT.isArray, ?_⟩
  rw [if_neg hin]
  refine ⟨.byte, hT, Or.inl rfl, (fun q => by cases q), ?_, ?_⟩
  · rw [hy]; exact hfit
  · rw [hy, hcl]; exact a1
theorem r_sast {a N : Nat} {f : Nat → Int32} {i x y : Int32} (nx : Nat) (hd : decode M.2.1 pc = .ok (.sastore, 1)) (hn : pc + 1 = nx) (hA : A.1 a = some (eI w 2 N f)) (hb : wb w ≤ a) (j : Nat) (hi : i = nI j) (hj : j < N) (hN : N < 2 ^ 31) (hy : narrow .short (.int x) = .int y) (hf : fits .short (.int y) = true) (K : Rn w M R Z k n (hp_up A a (eI w 2 N (upd f j y))) nx lo st) : Rn w M R Z k n A pc lo (.int x :: .int i :: .ref a :: st) := by
  subst hn
  subst hi
  intro p e s m args below meth c H locs ls C hR hL hl T hTH X
  subst hTH
  have hat : T.heap[a]? = some (vp_cell (w.2.2.1 2) (N, .inl f)) := hR.at hA
  have hcl := nI_clamp (n := j) (by omega)
  have harr : s.isArrayOf (vp_cell (w.2.2.1 2) (N, .inl f)) .short := (C.k.K.2 2 _ rfl).1 N (fun j => .int (f j))
  have hT := State.isArrayOf_alike X.warmed.alike harr
  have hin : ¬ (nI j < 0 ∨ (vp_cell (w.2.2.1 2) (N, .inl f)).slots.size ≤ (nI j).toNatClampNeg) := by
    show ¬ (nI j < 0 ∨ (arrV _ _ _).slots.size ≤ _)
    rw [arrV_size]
    exact vp_in_nI hj hN
  have hfit := fit_lane (j := (nI j).toNatClampNeg) X.warmed.alike harr hf
  have hd' : decode c.code pc = .ok (.sastore, 1) := by rw [C.b]; exact hd
  obtain ⟨t, a1, b1⟩ := K p e s m args below meth c _ _ ls C (hup_lane (j := j) (y := y) hR hb hA) (lc_app (i := j) hL hb) hl _ rfl (X.stored hat j (.int y))
  refine ⟨t, ?_, b1⟩
  have hexec := C.x
  jvm_step X.here [hexec, hd', sastore.wp_sem]
  refine ⟨x, nI j, .ref a, st, ⟨rfl, rfl, rfl, rfl⟩, _, hat, hT.isArray, ?_⟩
  rw [if_neg hin]
  refine ⟨hT, (fun q => by cases q), ?_, ?_⟩
  · rw [hy]; exact hfit
  · rw [hy, hcl]; exact a1
theorem r_getX {idx : Nat} {C0 ref nm ds : String} (hd : decode M.2.1 pc = .ok (.getfield idx, 3)) (hlk : Jvm.Cond.fieldLink M.1.cls idx ref nm ds ∈ lw_all) (hlf : Jvm.Cond.laysFinal C0 ref nm ds ∈ lw_all) (hT : TR w) (hr : rOk R k n 1 8 st = true) (K : Rt w M R Z (k + 1) (n + 8) (A.1, A.2 + 1) pc lo "java/lang/NullPointerException") : Rn w M R Z k n A pc lo (.null :: st) := by
  intro p e s m args below meth c H locs ls C hR hL hl T hTH X
  subst hTH
  obtain ⟨c1, k1, c1', k1', i1, fv, hc1, hk1, hf1, hs1, -⟩ := Jvm.Cond.laysFinal_spec (C.ts _ hlf)
  obtain ⟨vm', X', hst'⟩ := X.getfieldNull C.x C.own (C.ts _ hlk) hf1 hs1 (g := F0 m pc ls (.null :: st)) rfl rfl (by rw [C.b]; exact hd)
  obtain ⟨t, a1, b1⟩ := rz_n hT hr K p e s m args below meth c _ locs ls C hR hL hl (T.setVm vm') rfl X'
  exact ⟨t, hst' t a1, b1⟩
end LANES2

