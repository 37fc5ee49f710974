/-! THE LAW: what a call answers -/
set_option maxRecDepth 100000
def lw_Q (_ : Array Value) (s : State) (o : Outcome) (t : State) : Prop := o = .returned (some (.int 1)) ∧ Framed s o t [] 603072 7262314
def lw_Z (below : List Frame) (a : Array Value) (s : State) : State → Prop := fun t => ∃ o, t.status = .running ∧ Ended t below o ∧ lw_Q a s o t
abbrev mLw : MI := (x, cL_law, 4, some .boolean)
/-- the script, as it lay at the start -/
def SC (w : WE) (L : Nat) (f : Nat → Int32) : Prop := L ≤ 384 ∧ w.2.2.2.2 0 < wb w ∧ va_X (w.2.2.2.2 0) L f (ws0 w) (ws0 w).heap
def ZL (w : WE) : ZT := fun below args s t => s = ws0 w → lw_Z below args s t
theorem ckL {nL d mc ms k n : Nat} {st : List Value} (h1 : d ≤ 30) (h2 : nL ≤ 40) (h3 : mc ≤ 20) (h4 : ms ≤ 2000) (h5 : k ≤ 5000) (h6 : n ≤ 1000000) (h7 : (st.map fun v => v.category).sum ≤ 8) : cOk room_1 nL d mc ms k n st = true := cOk_of (by show d + 1 ≤ 2048; omega) (by show 8 + (nL + 11) + (11000 + 64 * d) ≤ 94400; omega) (by show k + mc ≤ 603072; omega) (by show n + ms ≤ 7262314; omega) h7
section LROWS
variable {w : WE} {R : Room} {Z : ZT} {k n : Nat} {A : Hp} {pc : Nat} {lo : List (Option Value)} {st : List Value} {L : Nat} {f : Nat → Int32} {M : MI}
theorem SC.at {p : Program} {s : State} {m : MethodId} {args : Array Value} {meth : Method} {c : Code} {H : Heap} (h : SC w L f) (C : Cx w M p s m args meth c) (hR : Rp w A H) : va_X (w.2.2.2.2 0) L f s H := (va_X.moved C.k.2.2.2.alike h.2.2).kept (hR.2.2.2 _ h.2.1)
theorem r_slen (nx : Nat) (hd : decode M.2.1 pc = .ok (.arraylength, 1)) (hn : pc + 1 = nx) (h : SC w L f) (K : Rn w M R Z k n A nx lo (.int (nI L) :: st)) : Rn w M R Z k n A pc lo (.ref (w.2.2.2.2 0) :: st) := by
  subst hn
  intro p e s m args below meth c H locs ls C hR hL hl
  obtain ⟨scr, h1, h2, h3, h4, h5⟩ := h.at C hR
  exact W.alen (n := Int32.ofNat L) C.x C.b h1 h2 (by rw [h4] <;> rfl) rfl rfl hd (K p e s m args below meth c H locs ls C hR hL hl)
theorem r_scld {i : Int32} (nx : Nat) (hd : decode M.2.1 pc = .ok (.iaload, 1)) (hn : pc + 1 = nx) (h : SC w L f) (j : Nat) (hi : i = nI j) (hj : j < L) (K : Rn w M R Z k n A nx lo (.int (f j) :: st)) : Rn w M R Z k n A pc lo (.int i :: .ref (w.2.2.2.2 0) :: st) := by
  subst hn
  subst hi
  intro p e s m args below meth c H locs ls C hR hL hl
  obtain ⟨scr, h1, h2, h3, h4, h5⟩ := h.at C hR
  have hL2 := h.1
  have hcl := nI_clamp (n := j) (by omega)
  refine W.iald (v := .int (f j)) C.x C.b h1 h2 h3 (by rw [h4]; exact vp_in_nI hj (by omega)) (by rw [hcl]; exact h5 _ hj) rfl rfl hd (K p e s m args below meth c H locs ls C hR hL hl)
theorem r_bool {v : Int32} {o1 o2 : Int} (p1 p2 p3 tgt : Nat) (hd : decode M.2.1 pc = .ok (.ifCond .eq o1, 3)) (h1 : pc + 3 = p1) (ht : (pc : Int) + o1 = (p3 : Int)) (hd1 : decode M.2.1 p1 = .ok (.iconst 1, 1)) (h2 : p1 + 1 = p2) (hd2 : decode M.2.1 p2 = .ok (.goto o2, 3)) (ht2 : (p2 : Int) + o2 = (tgt : Int)) (hd3 : decode M.2.1 p3 = .ok (.iconst 0, 1)) (h3 : p3 + 1 = tgt) (K : Rn w M R Z k n A tgt lo (.int (bI (!decide (v = 0))) :: st)) : Rn w M R Z k n A pc lo (.int v :: st) := by
  refine r_if_eq p3 p1 hd h1 ht (fun hc => ?_) (fun hc => ?_)
  · refine r_iconst tgt hd3 h3 ic_0 ?_
    rw [decide_eq_true hc] at K
    exact K
  · refine r_iconst p2 hd1 h2 ic_1 ?_
    refine r_goto tgt hd2 ht2 ?_
    rw [decide_eq_false hc] at K
    exact K
theorem lg_self (x : Int64) : lg_cmp x x = 0 := by
  unfold lg_cmp
  rw [if_neg (Int64.lt_irrefl (a := x)), if_pos rfl]
/-- the law's end -/
theorem r_lend (hd : decode cL_law pc = .ok (.ireturn, 1)) (hk : k ≤ 603072) (hn : n ≤ 7262314) : Rn w mLw room_1 (ZL w) k n A pc lo [.int 1] := by
  intro p e s m args below meth c H locs ls C hR hL hl T hT X0
  have X := stand_widen X0 hk hn
  have hr := C.r
  have hlocks := C.nl
  obtain ⟨fs, hret, hrun, hended, hW, hframe⟩ := X.leave (v := some (.int 1)) (hlocks := hlocks) (fun h => by rw [hr] at h; cases h)
  have hmeth' : T.vm.method? m = some meth := X.method'
  have hx := C.x
  have hb : c.code = cL_law := C.b
  refine ⟨T.setFrames fs, ?_, fun hs => ⟨.returned (some (.int 1)), hrun, hended, rfl, ⟨_, rfl⟩, hW, ?_⟩⟩
  · jvm_step X.here [X.here.top, hx, hb, hd, hmeth', hr, narrow_b1]
    (try refine ⟨rfl, ?_⟩); (try refine ⟨rfl, ?_⟩)
    first | (intro acts; rw [hret _ acts rfl rfl rfl]) | rw [hret _ _ rfl rfl rfl]
    exact Steps.refl _
  · exact Jvm.State.sameButNew.drop_fresh (L := []) hframe (fun q hq => by rw [hs]; exact hL q hq)
end LROWS
theorem MR.fx {w : WE} {A A' : Hp} {m : MT} (h : MR w A m) (hF : Fx w A A') : MR w A' m := ⟨(hF.2 _ (Nat.le_refl _) (by omega)).trans h.1, fun j j1 j2 => (hF.2 _ (by omega) (by omega)).trans (h.2 j j1 j2)⟩
/-- what lies in a sheet fits its lane -/
def NRs (sh : Nat → Option Sh) : Prop := ∀ (k : Nat) (q : Sh), sh k = some q → ∀ i, i < q.2.1 → nar q.1 (q.2.2 i) = q.2.2 i
theorem NRs.up {sh : Nat → Option Sh} {k : Nat} {o : Option Sh} (h : NRs sh) (ho : ∀ q, o = some q → ∀ i, i < q.2.1 → nar q.1 (q.2.2 i) = q.2.2 i) : NRs (va_up sh k o) := fun j q hq => by
  by_cases e : j = k
  · subst e
    exact ho q (by simpa [va_up] using hq)
  · exact h j q (by simpa [va_up, e] using hq)
theorem nar_nar (l : Nat) (v : Int32) : nar l (nar l v) = nar l v := by
  unfold nar
  split
  · simp
  · split
    · simp
    · rfl
theorem nar_z (l : Nat) : nar l 0 = 0 := by
  unfold nar
  split
  · decide
  · split
    · decide
    · rfl
def S9 (S : ST) : Prop := (∀ q ∈ S.2.2.1, q.2.2.2.2.2 ≤ 9) ∧ NRs S.2.2.2.2.2
/-- between two calls: both hold one state -/
def LV (w : WE) (A : Hp) : Prop := ∃ (m : MT) (S : ST) (x : XT), MR w A m ∧ MS m S ∧ XS w A x S ∧ S9 S ∧ mb w + 22 < A.2
/-- what the launch and the start give -/
def LK (w : WE) (L : Nat) (f : Nat → Int32) : Prop := SC w L f ∧ MRi w ∧ TR w ∧ KM w
theorem s9_look {S : ST} {k s i n : Int32} {b : Bool} {f : Nat → (Nat → Int32) → Int32 × ST} (h : S9 S) (hf : ∀ n c, S9 (f n c).2) : S9 (sp_look S k s i n b f).2 := by
  unfold sp_look
  split
  · exact h
  · split
    · exact h
    · split
      · exact hf _ _
      · exact h
theorem s9_sea {S : ST} {k s i n : Int32} (h : S9 S) : S9 (sp_sea S k s i n).2 := s9_look h (fun n c => by
  cases rsea c n with
  | inl e => exact h
  | inr z => exact ⟨fun q hq => (by cases hq), h.2⟩)
theorem s9_table {S : ST} {g k s i n : Int32} (h : S9 S) : S9 (sp_table S g k s i n).2 := s9_look h (fun n c => by
  split
  · exact h
  · split <;> exact h)
theorem s9_book {S : ST} {k s i n : Int32} (h : S9 S) : S9 (sp_book S k s i n).2 := s9_look h (fun n c => by
  split <;> exact h)
theorem s9_road {S : ST} {kd a b bed len : Int32} (h : S9 S) : S9 (sp_road S kd a b bed len).2 := by
  unfold sp_road
  split
  · exact h
  · split
    · exact h
    · split
      · exact h
      · refine ⟨fun q hq => ?_, h.2⟩
        rcases List.mem_append.mp hq with hq | hq
        · exact h.1 q hq
        · cases List.mem_singleton.mp hq
          exact Nat.zero_le _
theorem ix_mem {α : Type} {l : List α} {x : Int32} {q : α} (h : ix l x = some q) : q ∈ l := by
  unfold ix at h
  split at h
  · exact List.mem_of_getElem? h
  · cases h
theorem s9_mend {S : ST} {v : Int32} (h : S9 S) : S9 (sp_mend S v).2 := by
  unfold sp_mend
  cases hi : ix S.2.2.1 v with
  | none => exact h
  | some q =>
    dsimp only
    split
    · exact h
    · split
      · exact h
      · rename_i h1 h2
        refine ⟨fun p hp => ?_, h.2⟩
        rcases List.mem_or_eq_of_mem_set hp with hp | rfl
        · exact h.1 p hp
        · have hq : q ∈ S.2.2.1 := ix_mem hi
          have := h.1 q hq
          show q.2.2.2.2.2 + 1 ≤ 9
          omega
theorem s9_tell {S : ST} {v : Int32} (h : S9 S) : S9 (sp_tell S v).2 := by
  unfold sp_tell
  split
  · exact h
  · split
    · exact h
    · split <;> exact h
theorem s9_stake {S : ST} {v : Int32} (h : S9 S) : S9 (sp_stake S v).2 := by
  unfold sp_stake
  split
  · exact h
  · split <;> exact h
theorem s9_as {S : ST} {v s : Int32} (h : S9 S) : S9 (sp_as S v s).2 := by
  unfold sp_as
  split
  · exact h
  · split
    · split <;> exact h
    · exact h
theorem s9_sheet {S : ST} {k s n : Int32} (h : S9 S) : S9 (sp_sheet S k s n).2 := by
  unfold sp_sheet
  split
  · exact h
  · split
    · exact h
    · split
      · exact h
      · exact ⟨h.1, h.2.up (fun q hq i hi => by cases hq; exact nar_z _)⟩
theorem s9_lose {S : ST} {k : Int32} (h : S9 S) : S9 (sp_lose S k).2 := by
  unfold sp_lose
  split
  · exact ⟨h.1, h.2.up (fun q hq => by cases hq)⟩
  · exact h
theorem s9_put {S : ST} {k i v : Int32} (h : S9 S) : S9 (sp_put S k i v).2 := by
  unfold sp_put
  split
  · exact h
  · split
    · exact h
    · rename_i q hq
      split
      · refine ⟨h.1, h.2.up (fun q' hq' i' hi' => ?_)⟩
        cases hq'
        show nar q.1 (upd q.2.2 _ _ i') = upd q.2.2 _ _ i'
        unfold upd
        split
        · exact nar_nar _ _
        · exact h.2 _ q hq i' hi'
      · exact h
theorem s9_cell {S : ST} {k i s : Int32} (h : S9 S) : S9 (sp_cell S k i s).2 := by
  unfold sp_cell
  split
  · exact h
  · split
    · exact h
    · split
      · exact h
      · split <;> exact h
theorem s9_copy {S : ST} {k i q j n : Int32} (h : S9 S) : S9 (sp_copy S k i q j n).2 := by
  unfold sp_copy
  split
  · exact h
  · split
    · exact h
    · split
      · exact h
      · rename_i q1 hq1 _ p1 hp1
        split
        · exact h
        · rename_i hne
          split
          · rename_i hok
            obtain ⟨z1, z2, z3, z4, z5, z6, z7⟩ := cpOk_t.mp hok
            refine ⟨h.1, h.2.up (fun q' hq' i' hi' => ?_)⟩
            cases hq'
            show nar p1.1 (cpf _ _ _ _ _ i') = cpf _ _ _ _ _ i'
            unfold cpf
            split
            · rename_i hin
              have e : q1.1 = p1.1 := Classical.not_not.mp hne
              rw [← e]
              exact h.2 _ q1 hq1 _ (by omega)
            · exact h.2 _ p1 hp1 i' hi'
          · exact h
theorem many_e {m : MT} {S : ST} {v : Int32} (h : MS m S) : sp_many S v = if v.toInt = 0 then m.1 5 else if v.toInt = 1 then m.1 6 else if v.toInt = 2 then m.1 16 else -2 := by
  have e0 : v = 0 ↔ v.toInt = 0 := i_eq
  have e1 : v = nI 1 ↔ v.toInt = 1 := i_eq
  have e2 : v = nI 2 ↔ v.toInt = 2 := i_eq
  unfold sp_many
  rw [h.il, h.mo.1, h.rd.1]
  simp only [e0, e1, e2]
theorem sYV_sheet : SiteYV "ThirdEbbLaw" 103 0 mX0_sheet (some [(43, 62, 63, 269)]) 3 := ⟨RX0, TX0, 14, rfl, q545, q546, q547, q50, lw_methW q548, by decide, by decide +kernel⟩
theorem sYV_put : SiteYV "ThirdEbbLaw" 111 0 mX0_put (some [(18, 33, 34, 278), (18, 33, 42, 280)]) 3 := ⟨RX0, TX0, 14, rfl, q666, q667, q668, q50, lw_methW q669, by decide, by decide +kernel⟩
theorem sYV_cell : SiteYV "ThirdEbbLaw" 115 0 mX0_cell (some [(28, 39, 40, 278), (28, 39, 48, 293), (28, 39, 56, 280)]) 3 := ⟨RX0, TX0, 14, rfl, q720, q721, q722, q50, lw_methW q723, by decide, by decide +kernel⟩
set_option maxHeartbeats 4000000 in
theorem lwc_0 {w : WE} {A : Hp} {L c : Nat} {f : Nat → Int32} (hK : LK w L f) (hc : 6 * c + 6 ≤ L) (hV : LV w A) (K : ∀ A' : Hp, LV w A' → Rn w mLw room_1 (ZL w) (44 + 20 * (c + 1)) (42481 + 2000 * (c + 1)) A' 1441 [some (.ref (w.2.2.2.2 0)), some (.ref (wb w)), some (.ref (mb w)), some (.int (nI (6 * c)))] []) : Rn w mLw room_1 (ZL w) (44 + 20 * c) (42481 + 2000 * c) A 172 [some (.ref (w.2.2.2.2 0)), some (.ref (wb w)), some (.ref (mb w)), some (.int (nI (6 * c)))] [] := by
  have hL := hK.1.1
  obtain ⟨m, S, x, hm, hS, hx, h9, h22⟩ := hV
  refine r_aload_n 173 dL_law_172 rfl rfl lo1 ?_
  refine r_aload_n 174 dL_law_173 rfl rfl lo0 ?_
  refine r_iload_n 175 dL_law_174 rfl rfl lo3 ?_
  refine r_iconst 176 dL_law_175 rfl ic_1 ?_
  refine r_iaddN 177 dL_law_176 rfl ?_
  refine r_scld 178 dL_law_177 rfl hK.1 (6 * c + 1) rfl (by omega) ?_
  refine r_aload_n 179 dL_law_178 rfl rfl lo0 ?_
  refine r_iload_n 180 dL_law_179 rfl rfl lo3 ?_
  refine r_iconst 181 dL_law_180 rfl ic_2 ?_
  refine r_iaddN 182 dL_law_181 rfl ?_
  refine r_scld 183 dL_law_182 rfl hK.1 (6 * c + 2) rfl (by omega) ?_
  refine r_aload_n 184 dL_law_183 rfl rfl lo0 ?_
  refine r_iload_n 185 dL_law_184 rfl rfl lo3 ?_
  refine r_iconst 186 dL_law_185 rfl ic_3 ?_
  refine r_iaddN 187 dL_law_186 rfl ?_
  refine r_scld 188 dL_law_187 rfl hK.1 (6 * c + 3) rfl (by omega) ?_
  refine r_aload_n 189 dL_law_188 rfl rfl lo0 ?_
  refine r_iload_n 190 dL_law_189 rfl rfl lo3 ?_
  refine r_iconst 191 dL_law_190 rfl ic_4 ?_
  refine r_iaddN 192 dL_law_191 rfl ?_
  refine r_scld 193 dL_law_192 rfl hK.1 (6 * c + 4) rfl (by omega) ?_
  refine r_callV (As := [.int (f (6 * c + 1)), .int (f (6 * c + 2)), .int (f (6 * c + 3)), .int (f (6 * c + 4))]) (st := []) rfl 196 dL_law_193 rfl sV_L_13_0 hx.t (ckL (by decide) (by decide) (by decide) (by decide) (by omega) (by omega) (Nat.le_of_ble_eq_true rfl)) rfl (ev_X0_sea hx h22 hK.2.1 hK.2.2.1 hK.2.2.2) (fun v A1 hQ => ?_)
  obtain ⟨rfl, x1, hx1, hF1⟩ := hQ
  have hm1 := hm.fx hF1
  refine r_aload_n 197 dL_law_196 rfl rfl lo2 ?_
  refine r_aload_n 198 dL_law_197 rfl rfl lo0 ?_
  refine r_iload_n 199 dL_law_198 rfl rfl lo3 ?_
  refine r_iconst 200 dL_law_199 rfl ic_1 ?_
  refine r_iaddN 201 dL_law_200 rfl ?_
  refine r_scld 202 dL_law_201 rfl hK.1 (6 * c + 1) rfl (by omega) ?_
  refine r_aload_n 203 dL_law_202 rfl rfl lo0 ?_
  refine r_iload_n 204 dL_law_203 rfl rfl lo3 ?_
  refine r_iconst 205 dL_law_204 rfl ic_2 ?_
  refine r_iaddN 206 dL_law_205 rfl ?_
  refine r_scld 207 dL_law_206 rfl hK.1 (6 * c + 2) rfl (by omega) ?_
  refine r_aload_n 208 dL_law_207 rfl rfl lo0 ?_
  refine r_iload_n 209 dL_law_208 rfl rfl lo3 ?_
  refine r_iconst 210 dL_law_209 rfl ic_3 ?_
  refine r_iaddN 211 dL_law_210 rfl ?_
  refine r_scld 212 dL_law_211 rfl hK.1 (6 * c + 3) rfl (by omega) ?_
  refine r_aload_n 213 dL_law_212 rfl rfl lo0 ?_
  refine r_iload_n 214 dL_law_213 rfl rfl lo3 ?_
  refine r_iconst 215 dL_law_214 rfl ic_4 ?_
  refine r_iaddN 216 dL_law_215 rfl ?_
  refine r_scld 217 dL_law_216 rfl hK.1 (6 * c + 4) rfl (by omega) ?_
  refine r_callV (As := [.int (f (6 * c + 1)), .int (f (6 * c + 2)), .int (f (6 * c + 3)), .int (f (6 * c + 4))]) rfl 220 dL_law_217 rfl sV_L_17_1 hm1.t (ckL (by decide) (by decide) (by decide) (by decide) (by omega) (by omega) (Nat.le_of_ble_eq_true rfl)) rfl (ev_X1_sea hm1 hS) (fun v A2 hQ => ?_)
  obtain ⟨m2, ⟨rfl, hS2⟩, hm2, hF2⟩ := hQ
  refine r_icmp_eq 1441 223 dL_law_220 rfl (by decide) (fun _ => ?_) (fun h => absurd (rfl) h)
  refine r_wide (44 + 20 * (c + 1)) (42481 + 2000 * (c + 1)) (by omega) (by omega) ?_
  exact K A2 ⟨_, _, _, hm2, hS2, hx1.fm hF2, s9_sea h9, by rw [hF2.1]; exact Nat.lt_of_lt_of_le h22 hF1.1⟩

set_option maxHeartbeats 4000000 in
theorem lwc_1 {w : WE} {A : Hp} {L c : Nat} {f : Nat → Int32} (hK : LK w L f) (hc : 6 * c + 6 ≤ L) (hV : LV w A) (K : ∀ A' : Hp, LV w A' → Rn w mLw room_1 (ZL w) (44 + 20 * (c + 1)) (42481 + 2000 * (c + 1)) A' 1441 [some (.ref (w.2.2.2.2 0)), some (.ref (wb w)), some (.ref (mb w)), some (.int (nI (6 * c)))] []) : Rn w mLw room_1 (ZL w) (44 + 20 * c) (42481 + 2000 * c) A 225 [some (.ref (w.2.2.2.2 0)), some (.ref (wb w)), some (.ref (mb w)), some (.int (nI (6 * c)))] [] := by
  have hL := hK.1.1
  obtain ⟨m, S, x, hm, hS, hx, h9, h22⟩ := hV
  refine r_aload_n 226 dL_law_225 rfl rfl lo1 ?_
  refine r_aload_n 227 dL_law_226 rfl rfl lo0 ?_
  refine r_iload_n 228 dL_law_227 rfl rfl lo3 ?_
  refine r_iconst 229 dL_law_228 rfl ic_1 ?_
  refine r_iaddN 230 dL_law_229 rfl ?_
  refine r_scld 231 dL_law_230 rfl hK.1 (6 * c + 1) rfl (by omega) ?_
  refine r_aload_n 232 dL_law_231 rfl rfl lo0 ?_
  refine r_iload_n 233 dL_law_232 rfl rfl lo3 ?_
  refine r_iconst 234 dL_law_233 rfl ic_2 ?_
  refine r_iaddN 235 dL_law_234 rfl ?_
  refine r_scld 236 dL_law_235 rfl hK.1 (6 * c + 2) rfl (by omega) ?_
  refine r_callV (As := [.int (f (6 * c + 1)), .int (f (6 * c + 2))]) (st := []) rfl 239 dL_law_236 rfl sV_L_18_0 hx.t (ckL (by decide) (by decide) (by decide) (by decide) (by omega) (by omega) (Nat.le_of_ble_eq_true rfl)) rfl (ev_X0_ofMoon hx) (fun v A1 hQ => ?_)
  obtain ⟨rfl, rfl⟩ := hQ
  have hx1 := hx
  have hF1 : Fx w A1 A1 := Fx.rf
  have hm1 := hm.fx hF1
  refine r_aload_n 240 dL_law_239 rfl rfl lo2 ?_
  refine r_aload_n 241 dL_law_240 rfl rfl lo0 ?_
  refine r_iload_n 242 dL_law_241 rfl rfl lo3 ?_
  refine r_iconst 243 dL_law_242 rfl ic_1 ?_
  refine r_iaddN 244 dL_law_243 rfl ?_
  refine r_scld 245 dL_law_244 rfl hK.1 (6 * c + 1) rfl (by omega) ?_
  refine r_aload_n 246 dL_law_245 rfl rfl lo0 ?_
  refine r_iload_n 247 dL_law_246 rfl rfl lo3 ?_
  refine r_iconst 248 dL_law_247 rfl ic_2 ?_
  refine r_iaddN 249 dL_law_248 rfl ?_
  refine r_scld 250 dL_law_249 rfl hK.1 (6 * c + 2) rfl (by omega) ?_
  refine r_callV (As := [.int (f (6 * c + 1)), .int (f (6 * c + 2))]) rfl 253 dL_law_250 rfl sV_L_22_1 hm1.t (ckL (by decide) (by decide) (by decide) (by decide) (by omega) (by omega) (Nat.le_of_ble_eq_true rfl)) rfl (ev_X1_ofMoon hm1 hS) (fun v A2 hQ => ?_)
  obtain ⟨rfl, rfl⟩ := hQ
  have hS2 := hS
  have hm2 := hm1
  have hF2 : Fm w A2 A2 := Fm.rf
  refine r_icmp_eq 1441 256 dL_law_253 rfl (by decide) (fun _ => ?_) (fun h => absurd (rfl) h)
  refine r_wide (44 + 20 * (c + 1)) (42481 + 2000 * (c + 1)) (by omega) (by omega) ?_
  exact K A2 ⟨_, _, _, hm2, hS2, hx1.fm hF2, h9, by rw [hF2.1]; exact Nat.lt_of_lt_of_le h22 hF1.1⟩

set_option maxHeartbeats 4000000 in
theorem lwc_2 {w : WE} {A : Hp} {L c : Nat} {f : Nat → Int32} (hK : LK w L f) (hc : 6 * c + 6 ≤ L) (hV : LV w A) (K : ∀ A' : Hp, LV w A' → Rn w mLw room_1 (ZL w) (44 + 20 * (c + 1)) (42481 + 2000 * (c + 1)) A' 1441 [some (.ref (w.2.2.2.2 0)), some (.ref (wb w)), some (.ref (mb w)), some (.int (nI (6 * c)))] []) : Rn w mLw room_1 (ZL w) (44 + 20 * c) (42481 + 2000 * c) A 258 [some (.ref (w.2.2.2.2 0)), some (.ref (wb w)), some (.ref (mb w)), some (.int (nI (6 * c)))] [] := by
  have hL := hK.1.1
  obtain ⟨m, S, x, hm, hS, hx, h9, h22⟩ := hV
  refine r_aload_n 259 dL_law_258 rfl rfl lo1 ?_
  refine r_aload_n 260 dL_law_259 rfl rfl lo0 ?_
  refine r_iload_n 261 dL_law_260 rfl rfl lo3 ?_
  refine r_iconst 262 dL_law_261 rfl ic_1 ?_
  refine r_iaddN 263 dL_law_262 rfl ?_
  refine r_scld 264 dL_law_263 rfl hK.1 (6 * c + 1) rfl (by omega) ?_
  refine r_aload_n 265 dL_law_264 rfl rfl lo0 ?_
  refine r_iload_n 266 dL_law_265 rfl rfl lo3 ?_
  refine r_iconst 267 dL_law_266 rfl ic_2 ?_
  refine r_iaddN 268 dL_law_267 rfl ?_
  refine r_scld 269 dL_law_268 rfl hK.1 (6 * c + 2) rfl (by omega) ?_
  refine r_callV (As := [.int (f (6 * c + 1)), .int (f (6 * c + 2))]) (st := []) rfl 272 dL_law_269 rfl sV_L_23_0 hx.t (ckL (by decide) (by decide) (by decide) (by decide) (by omega) (by omega) (Nat.le_of_ble_eq_true rfl)) rfl (ev_X0_phase hx) (fun v A1 hQ => ?_)
  obtain ⟨rfl, rfl⟩ := hQ
  have hx1 := hx
  have hF1 : Fx w A1 A1 := Fx.rf
  have hm1 := hm.fx hF1
  refine r_aload_n 273 dL_law_272 rfl rfl lo2 ?_
  refine r_aload_n 274 dL_law_273 rfl rfl lo0 ?_
  refine r_iload_n 275 dL_law_274 rfl rfl lo3 ?_
  refine r_iconst 276 dL_law_275 rfl ic_1 ?_
  refine r_iaddN 277 dL_law_276 rfl ?_
  refine r_scld 278 dL_law_277 rfl hK.1 (6 * c + 1) rfl (by omega) ?_
  refine r_aload_n 279 dL_law_278 rfl rfl lo0 ?_
  refine r_iload_n 280 dL_law_279 rfl rfl lo3 ?_
  refine r_iconst 281 dL_law_280 rfl ic_2 ?_
  refine r_iaddN 282 dL_law_281 rfl ?_
  refine r_scld 283 dL_law_282 rfl hK.1 (6 * c + 2) rfl (by omega) ?_
  refine r_callV (As := [.int (f (6 * c + 1)), .int (f (6 * c + 2))]) rfl 286 dL_law_283 rfl sV_L_26_1 hm1.t (ckL (by decide) (by decide) (by decide) (by decide) (by omega) (by omega) (Nat.le_of_ble_eq_true rfl)) rfl (ev_X1_phase hm1 hS) (fun v A2 hQ => ?_)
  obtain ⟨rfl, rfl⟩ := hQ
  have hS2 := hS
  have hm2 := hm1
  have hF2 : Fm w A2 A2 := Fm.rf
  refine r_icmp_eq 1441 289 dL_law_286 rfl (by decide) (fun _ => ?_) (fun h => absurd (rfl) h)
  refine r_wide (44 + 20 * (c + 1)) (42481 + 2000 * (c + 1)) (by omega) (by omega) ?_
  exact K A2 ⟨_, _, _, hm2, hS2, hx1.fm hF2, h9, by rw [hF2.1]; exact Nat.lt_of_lt_of_le h22 hF1.1⟩

set_option maxHeartbeats 4000000 in
theorem lwc_3 {w : WE} {A : Hp} {L c : Nat} {f : Nat → Int32} (hK : LK w L f) (hc : 6 * c + 6 ≤ L) (hV : LV w A) (K : ∀ A' : Hp, LV w A' → Rn w mLw room_1 (ZL w) (44 + 20 * (c + 1)) (42481 + 2000 * (c + 1)) A' 1441 [some (.ref (w.2.2.2.2 0)), some (.ref (wb w)), some (.ref (mb w)), some (.int (nI (6 * c)))] []) : Rn w mLw room_1 (ZL w) (44 + 20 * c) (42481 + 2000 * c) A 291 [some (.ref (w.2.2.2.2 0)), some (.ref (wb w)), some (.ref (mb w)), some (.int (nI (6 * c)))] [] := by
  have hL := hK.1.1
  obtain ⟨m, S, x, hm, hS, hx, h9, h22⟩ := hV
  refine r_aload_n 292 dL_law_291 rfl rfl lo1 ?_
  refine r_aload_n 293 dL_law_292 rfl rfl lo0 ?_
  refine r_iload_n 294 dL_law_293 rfl rfl lo3 ?_
  refine r_iconst 295 dL_law_294 rfl ic_1 ?_
  refine r_iaddN 296 dL_law_295 rfl ?_
  refine r_scld 297 dL_law_296 rfl hK.1 (6 * c + 1) rfl (by omega) ?_
  refine r_callV (As := [.int (f (6 * c + 1))]) (st := []) rfl 300 dL_law_297 rfl sV_L_27_0 hx.t (ckL (by decide) (by decide) (by decide) (by decide) (by omega) (by omega) (Nat.le_of_ble_eq_true rfl)) rfl (ev_X0_level hx) (fun v A1 hQ => ?_)
  obtain ⟨rfl, rfl⟩ := hQ
  have hx1 := hx
  have hF1 : Fx w A1 A1 := Fx.rf
  have hm1 := hm.fx hF1
  refine r_aload_n 301 dL_law_300 rfl rfl lo2 ?_
  refine r_aload_n 302 dL_law_301 rfl rfl lo0 ?_
  refine r_iload_n 303 dL_law_302 rfl rfl lo3 ?_
  refine r_iconst 304 dL_law_303 rfl ic_1 ?_
  refine r_iaddN 305 dL_law_304 rfl ?_
  refine r_scld 306 dL_law_305 rfl hK.1 (6 * c + 1) rfl (by omega) ?_
  refine r_callV (As := [.int (f (6 * c + 1))]) rfl 309 dL_law_306 rfl sV_L_31_1 hm1.t (ckL (by decide) (by decide) (by decide) (by decide) (by omega) (by omega) (Nat.le_of_ble_eq_true rfl)) rfl (ev_X1_level hm1 hS) (fun v A2 hQ => ?_)
  obtain ⟨rfl, rfl⟩ := hQ
  have hS2 := hS
  have hm2 := hm1
  have hF2 : Fm w A2 A2 := Fm.rf
  refine r_icmp_eq 1441 312 dL_law_309 rfl (by decide) (fun _ => ?_) (fun h => absurd (rfl) h)
  refine r_wide (44 + 20 * (c + 1)) (42481 + 2000 * (c + 1)) (by omega) (by omega) ?_
  exact K A2 ⟨_, _, _, hm2, hS2, hx1.fm hF2, h9, by rw [hF2.1]; exact Nat.lt_of_lt_of_le h22 hF1.1⟩

set_option maxHeartbeats 4000000 in
theorem lwc_4 {w : WE} {A : Hp} {L c : Nat} {f : Nat → Int32} (hK : LK w L f) (hc : 6 * c + 6 ≤ L) (hV : LV w A) (K : ∀ A' : Hp, LV w A' → Rn w mLw room_1 (ZL w) (44 + 20 * (c + 1)) (42481 + 2000 * (c + 1)) A' 1441 [some (.ref (w.2.2.2.2 0)), some (.ref (wb w)), some (.ref (mb w)), some (.int (nI (6 * c)))] []) : Rn w mLw room_1 (ZL w) (44 + 20 * c) (42481 + 2000 * c) A 314 [some (.ref (w.2.2.2.2 0)), some (.ref (wb w)), some (.ref (mb w)), some (.int (nI (6 * c)))] [] := by
  have hL := hK.1.1
  obtain ⟨m, S, x, hm, hS, hx, h9, h22⟩ := hV
  refine r_aload_n 315 dL_law_314 rfl rfl lo1 ?_
  refine r_callV (As := []) (st := []) rfl 318 dL_law_315 rfl sV_L_32_0 hx.t (ckL (by decide) (by decide) (by decide) (by decide) (by omega) (by omega) (Nat.le_of_ble_eq_true rfl)) rfl (ev_X0_again hx) (fun v A1 hQ => ?_)
  obtain ⟨rfl, rfl⟩ := hQ
  have hx1 := hx
  have hF1 : Fx w A1 A1 := Fx.rf
  have hm1 := hm.fx hF1
  refine r_aload_n 319 dL_law_318 rfl rfl lo2 ?_
  refine r_callV (As := []) rfl 322 dL_law_319 rfl sV_L_36_1 hm1.t (ckL (by decide) (by decide) (by decide) (by decide) (by omega) (by omega) (Nat.le_of_ble_eq_true rfl)) rfl (ev_X1_again hm1 hS) (fun v A2 hQ => ?_)
  obtain ⟨rfl, rfl⟩ := hQ
  have hS2 := hS
  have hm2 := hm1
  have hF2 : Fm w A2 A2 := Fm.rf
  refine r_icmp_eq 1441 325 dL_law_322 rfl (by decide) (fun _ => ?_) (fun h => absurd (rfl) h)
  refine r_wide (44 + 20 * (c + 1)) (42481 + 2000 * (c + 1)) (by omega) (by omega) ?_
  exact K A2 ⟨_, _, _, hm2, hS2, hx1.fm hF2, h9, by rw [hF2.1]; exact Nat.lt_of_lt_of_le h22 hF1.1⟩

set_option maxHeartbeats 4000000 in
theorem lwc_5 {w : WE} {A : Hp} {L c : Nat} {f : Nat → Int32} (hK : LK w L f) (hc : 6 * c + 6 ≤ L) (hV : LV w A) (K : ∀ A' : Hp, LV w A' → Rn w mLw room_1 (ZL w) (44 + 20 * (c + 1)) (42481 + 2000 * (c + 1)) A' 1441 [some (.ref (w.2.2.2.2 0)), some (.ref (wb w)), some (.ref (mb w)), some (.int (nI (6 * c)))] []) : Rn w mLw room_1 (ZL w) (44 + 20 * c) (42481 + 2000 * c) A 327 [some (.ref (w.2.2.2.2 0)), some (.ref (wb w)), some (.ref (mb w)), some (.int (nI (6 * c)))] [] := by
  have hL := hK.1.1
  obtain ⟨m, S, x, hm, hS, hx, h9, h22⟩ := hV
  refine r_aload_n 328 dL_law_327 rfl rfl lo1 ?_
  refine r_aload_n 329 dL_law_328 rfl rfl lo0 ?_
  refine r_iload_n 330 dL_law_329 rfl rfl lo3 ?_
  refine r_iconst 331 dL_law_330 rfl ic_1 ?_
  refine r_iaddN 332 dL_law_331 rfl ?_
  refine r_scld 333 dL_law_332 rfl hK.1 (6 * c + 1) rfl (by omega) ?_
  refine r_aload_n 334 dL_law_333 rfl rfl lo0 ?_
  refine r_iload_n 335 dL_law_334 rfl rfl lo3 ?_
  refine r_iconst 336 dL_law_335 rfl ic_2 ?_
  refine r_iaddN 337 dL_law_336 rfl ?_
  refine r_scld 338 dL_law_337 rfl hK.1 (6 * c + 2) rfl (by omega) ?_
  refine r_aload_n 339 dL_law_338 rfl rfl lo0 ?_
  refine r_iload_n 340 dL_law_339 rfl rfl lo3 ?_
  refine r_iconst 341 dL_law_340 rfl ic_3 ?_
  refine r_iaddN 342 dL_law_341 rfl ?_
  refine r_scld 343 dL_law_342 rfl hK.1 (6 * c + 3) rfl (by omega) ?_
  refine r_aload_n 344 dL_law_343 rfl rfl lo0 ?_
  refine r_iload_n 345 dL_law_344 rfl rfl lo3 ?_
  refine r_iconst 346 dL_law_345 rfl ic_4 ?_
  refine r_iaddN 347 dL_law_346 rfl ?_
  refine r_scld 348 dL_law_347 rfl hK.1 (6 * c + 4) rfl (by omega) ?_
  refine r_aload_n 349 dL_law_348 rfl rfl lo0 ?_
  refine r_iload_n 350 dL_law_349 rfl rfl lo3 ?_
  refine r_iconst 351 dL_law_350 rfl ic_5 ?_
  refine r_iaddN 352 dL_law_351 rfl ?_
  refine r_scld 353 dL_law_352 rfl hK.1 (6 * c + 5) rfl (by omega) ?_
  refine r_callV (As := [.int (f (6 * c + 1)), .int (f (6 * c + 2)), .int (f (6 * c + 3)), .int (f (6 * c + 4)), .int (f (6 * c + 5))]) (st := []) rfl 356 dL_law_353 rfl sV_L_37_0 hx.t (ckL (by decide) (by decide) (by decide) (by decide) (by omega) (by omega) (Nat.le_of_ble_eq_true rfl)) rfl (ev_X0_road hx h22) (fun v A1 hQ => ?_)
  obtain ⟨rfl, x1, hx1, hF1⟩ := hQ
  have hm1 := hm.fx hF1
  refine r_aload_n 357 dL_law_356 rfl rfl lo2 ?_
  refine r_aload_n 358 dL_law_357 rfl rfl lo0 ?_
  refine r_iload_n 359 dL_law_358 rfl rfl lo3 ?_
  refine r_iconst 360 dL_law_359 rfl ic_1 ?_
  refine r_iaddN 361 dL_law_360 rfl ?_
  refine r_scld 362 dL_law_361 rfl hK.1 (6 * c + 1) rfl (by omega) ?_
  refine r_aload_n 363 dL_law_362 rfl rfl lo0 ?_
  refine r_iload_n 364 dL_law_363 rfl rfl lo3 ?_
  refine r_iconst 365 dL_law_364 rfl ic_2 ?_
  refine r_iaddN 366 dL_law_365 rfl ?_
  refine r_scld 367 dL_law_366 rfl hK.1 (6 * c + 2) rfl (by omega) ?_
  refine r_aload_n 368 dL_law_367 rfl rfl lo0 ?_
  refine r_iload_n 369 dL_law_368 rfl rfl lo3 ?_
  refine r_iconst 370 dL_law_369 rfl ic_3 ?_
  refine r_iaddN 371 dL_law_370 rfl ?_
  refine r_scld 372 dL_law_371 rfl hK.1 (6 * c + 3) rfl (by omega) ?_
  refine r_aload_n 373 dL_law_372 rfl rfl lo0 ?_
  refine r_iload_n 374 dL_law_373 rfl rfl lo3 ?_
  refine r_iconst 375 dL_law_374 rfl ic_4 ?_
  refine r_iaddN 376 dL_law_375 rfl ?_
  refine r_scld 377 dL_law_376 rfl hK.1 (6 * c + 4) rfl (by omega) ?_
  refine r_aload_n 378 dL_law_377 rfl rfl lo0 ?_
  refine r_iload_n 379 dL_law_378 rfl rfl lo3 ?_
  refine r_iconst 380 dL_law_379 rfl ic_5 ?_
  refine r_iaddN 381 dL_law_380 rfl ?_
  refine r_scld 382 dL_law_381 rfl hK.1 (6 * c + 5) rfl (by omega) ?_
  refine r_callV (As := [.int (f (6 * c + 1)), .int (f (6 * c + 2)), .int (f (6 * c + 3)), .int (f (6 * c + 4)), .int (f (6 * c + 5))]) rfl 385 dL_law_382 rfl sV_L_41_1 hm1.t (ckL (by decide) (by decide) (by decide) (by decide) (by omega) (by omega) (Nat.le_of_ble_eq_true rfl)) rfl (ev_X1_road hm1 hS) (fun v A2 hQ => ?_)
  obtain ⟨m2, ⟨rfl, hS2⟩, hm2, hF2⟩ := hQ
  refine r_icmp_eq 1441 388 dL_law_385 rfl (by decide) (fun _ => ?_) (fun h => absurd (rfl) h)
  refine r_wide (44 + 20 * (c + 1)) (42481 + 2000 * (c + 1)) (by omega) (by omega) ?_
  exact K A2 ⟨_, _, _, hm2, hS2, hx1.fm hF2, s9_road h9, by rw [hF2.1]; exact Nat.lt_of_lt_of_le h22 hF1.1⟩

set_option maxHeartbeats 4000000 in
theorem lwc_6 {w : WE} {A : Hp} {L c : Nat} {f : Nat → Int32} (hK : LK w L f) (hc : 6 * c + 6 ≤ L) (hV : LV w A) (K : ∀ A' : Hp, LV w A' → Rn w mLw room_1 (ZL w) (44 + 20 * (c + 1)) (42481 + 2000 * (c + 1)) A' 1441 [some (.ref (w.2.2.2.2 0)), some (.ref (wb w)), some (.ref (mb w)), some (.int (nI (6 * c)))] []) : Rn w mLw room_1 (ZL w) (44 + 20 * c) (42481 + 2000 * c) A 390 [some (.ref (w.2.2.2.2 0)), some (.ref (wb w)), some (.ref (mb w)), some (.int (nI (6 * c)))] [] := by
  have hL := hK.1.1
  obtain ⟨m, S, x, hm, hS, hx, h9, h22⟩ := hV
  refine r_aload_n 391 dL_law_390 rfl rfl lo1 ?_
  refine r_aload_n 392 dL_law_391 rfl rfl lo0 ?_
  refine r_iload_n 393 dL_law_392 rfl rfl lo3 ?_
  refine r_iconst 394 dL_law_393 rfl ic_1 ?_
  refine r_iaddN 395 dL_law_394 rfl ?_
  refine r_scld 396 dL_law_395 rfl hK.1 (6 * c + 1) rfl (by omega) ?_
  refine r_aload_n 397 dL_law_396 rfl rfl lo0 ?_
  refine r_iload_n 398 dL_law_397 rfl rfl lo3 ?_
  refine r_iconst 399 dL_law_398 rfl ic_2 ?_
  refine r_iaddN 400 dL_law_399 rfl ?_
  refine r_scld 401 dL_law_400 rfl hK.1 (6 * c + 2) rfl (by omega) ?_
  refine r_callV (As := [.int (f (6 * c + 1)), .int (f (6 * c + 2))]) (st := []) rfl 404 dL_law_401 rfl sV_L_42_0 hx.t (ckL (by decide) (by decide) (by decide) (by decide) (by omega) (by omega) (Nat.le_of_ble_eq_true rfl)) rfl (ev_X0_ofRoad hx) (fun v A1 hQ => ?_)
  obtain ⟨rfl, rfl⟩ := hQ
  have hx1 := hx
  have hF1 : Fx w A1 A1 := Fx.rf
  have hm1 := hm.fx hF1
  refine r_aload_n 405 dL_law_404 rfl rfl lo2 ?_
  refine r_aload_n 406 dL_law_405 rfl rfl lo0 ?_
  refine r_iload_n 407 dL_law_406 rfl rfl lo3 ?_
  refine r_iconst 408 dL_law_407 rfl ic_1 ?_
  refine r_iaddN 409 dL_law_408 rfl ?_
  refine r_scld 410 dL_law_409 rfl hK.1 (6 * c + 1) rfl (by omega) ?_
  refine r_aload_n 411 dL_law_410 rfl rfl lo0 ?_
  refine r_iload_n 412 dL_law_411 rfl rfl lo3 ?_
  refine r_iconst 413 dL_law_412 rfl ic_2 ?_
  refine r_iaddN 414 dL_law_413 rfl ?_
  refine r_scld 415 dL_law_414 rfl hK.1 (6 * c + 2) rfl (by omega) ?_
  refine r_callV (As := [.int (f (6 * c + 1)), .int (f (6 * c + 2))]) rfl 418 dL_law_415 rfl sV_L_45_1 hm1.t (ckL (by decide) (by decide) (by decide) (by decide) (by omega) (by omega) (Nat.le_of_ble_eq_true rfl)) rfl (ev_X1_ofRoad hm1 hS) (fun v A2 hQ => ?_)
  obtain ⟨rfl, rfl⟩ := hQ
  have hS2 := hS
  have hm2 := hm1
  have hF2 : Fm w A2 A2 := Fm.rf
  refine r_icmp_eq 1441 421 dL_law_418 rfl (by decide) (fun _ => ?_) (fun h => absurd (rfl) h)
  refine r_wide (44 + 20 * (c + 1)) (42481 + 2000 * (c + 1)) (by omega) (by omega) ?_
  exact K A2 ⟨_, _, _, hm2, hS2, hx1.fm hF2, h9, by rw [hF2.1]; exact Nat.lt_of_lt_of_le h22 hF1.1⟩

set_option maxHeartbeats 4000000 in
theorem lwc_7 {w : WE} {A : Hp} {L c : Nat} {f : Nat → Int32} (hK : LK w L f) (hc : 6 * c + 6 ≤ L) (hV : LV w A) (K : ∀ A' : Hp, LV w A' → Rn w mLw room_1 (ZL w) (44 + 20 * (c + 1)) (42481 + 2000 * (c + 1)) A' 1441 [some (.ref (w.2.2.2.2 0)), some (.ref (wb w)), some (.ref (mb w)), some (.int (nI (6 * c)))] []) : Rn w mLw room_1 (ZL w) (44 + 20 * c) (42481 + 2000 * c) A 423 [some (.ref (w.2.2.2.2 0)), some (.ref (wb w)), some (.ref (mb w)), some (.int (nI (6 * c)))] [] := by
  have hL := hK.1.1
  obtain ⟨m, S, x, hm, hS, hx, h9, h22⟩ := hV
  refine r_aload_n 424 dL_law_423 rfl rfl lo1 ?_
  refine r_aload_n 425 dL_law_424 rfl rfl lo0 ?_
  refine r_iload_n 426 dL_law_425 rfl rfl lo3 ?_
  refine r_iconst 427 dL_law_426 rfl ic_1 ?_
  refine r_iaddN 428 dL_law_427 rfl ?_
  refine r_scld 429 dL_law_428 rfl hK.1 (6 * c + 1) rfl (by omega) ?_
  refine r_callV (As := [.int (f (6 * c + 1))]) (st := []) rfl 432 dL_law_429 rfl sV_L_46_0 hx.t (ckL (by decide) (by decide) (by decide) (by decide) (by omega) (by omega) (Nat.le_of_ble_eq_true rfl)) rfl (ev_X0_mend hx h9.1) (fun v A1 hQ => ?_)
  obtain ⟨rfl, x1, hx1, hF1⟩ := hQ
  have hm1 := hm.fx hF1
  refine r_aload_n 433 dL_law_432 rfl rfl lo2 ?_
  refine r_aload_n 434 dL_law_433 rfl rfl lo0 ?_
  refine r_iload_n 435 dL_law_434 rfl rfl lo3 ?_
  refine r_iconst 436 dL_law_435 rfl ic_1 ?_
  refine r_iaddN 437 dL_law_436 rfl ?_
  refine r_scld 438 dL_law_437 rfl hK.1 (6 * c + 1) rfl (by omega) ?_
  refine r_callV (As := [.int (f (6 * c + 1))]) rfl 441 dL_law_438 rfl sV_L_49_1 hm1.t (ckL (by decide) (by decide) (by decide) (by decide) (by omega) (by omega) (Nat.le_of_ble_eq_true rfl)) rfl (ev_X1_mend hm1 hS h9.1) (fun v A2 hQ => ?_)
  obtain ⟨m2, ⟨rfl, hS2⟩, hm2, hF2⟩ := hQ
  refine r_icmp_eq 1441 444 dL_law_441 rfl (by decide) (fun _ => ?_) (fun h => absurd (rfl) h)
  refine r_wide (44 + 20 * (c + 1)) (42481 + 2000 * (c + 1)) (by omega) (by omega) ?_
  exact K A2 ⟨_, _, _, hm2, hS2, hx1.fm hF2, s9_mend h9, by rw [hF2.1]; exact Nat.lt_of_lt_of_le h22 hF1.1⟩

set_option maxHeartbeats 4000000 in
theorem lwc_8 {w : WE} {A : Hp} {L c : Nat} {f : Nat → Int32} (hK : LK w L f) (hc : 6 * c + 6 ≤ L) (hV : LV w A) (K : ∀ A' : Hp, LV w A' → Rn w mLw room_1 (ZL w) (44 + 20 * (c + 1)) (42481 + 2000 * (c + 1)) A' 1441 [some (.ref (w.2.2.2.2 0)), some (.ref (wb w)), some (.ref (mb w)), some (.int (nI (6 * c)))] []) : Rn w mLw room_1 (ZL w) (44 + 20 * c) (42481 + 2000 * c) A 446 [some (.ref (w.2.2.2.2 0)), some (.ref (wb w)), some (.ref (mb w)), some (.int (nI (6 * c)))] [] := by
  have hL := hK.1.1
  obtain ⟨m, S, x, hm, hS, hx, h9, h22⟩ := hV
  refine r_aload_n 447 dL_law_446 rfl rfl lo1 ?_
  refine r_aload_n 448 dL_law_447 rfl rfl lo0 ?_
  refine r_iload_n 449 dL_law_448 rfl rfl lo3 ?_
  refine r_iconst 450 dL_law_449 rfl ic_1 ?_
  refine r_iaddN 451 dL_law_450 rfl ?_
  refine r_scld 452 dL_law_451 rfl hK.1 (6 * c + 1) rfl (by omega) ?_
  refine r_aload_n 453 dL_law_452 rfl rfl lo0 ?_
  refine r_iload_n 454 dL_law_453 rfl rfl lo3 ?_
  refine r_iconst 455 dL_law_454 rfl ic_2 ?_
  refine r_iaddN 456 dL_law_455 rfl ?_
  refine r_scld 457 dL_law_456 rfl hK.1 (6 * c + 2) rfl (by omega) ?_
  refine r_callV (As := [.int (f (6 * c + 1)), .int (f (6 * c + 2))]) (st := []) rfl 460 dL_law_457 rfl sV_L_50_0 hx.t (ckL (by decide) (by decide) (by decide) (by decide) (by omega) (by omega) (Nat.le_of_ble_eq_true rfl)) rfl (ev_X0_height hx) (fun v A1 hQ => ?_)
  obtain ⟨rfl, rfl⟩ := hQ
  have hx1 := hx
  have hF1 : Fx w A1 A1 := Fx.rf
  have hm1 := hm.fx hF1
  refine r_aload_n 461 dL_law_460 rfl rfl lo2 ?_
  refine r_aload_n 462 dL_law_461 rfl rfl lo0 ?_
  refine r_iload_n 463 dL_law_462 rfl rfl lo3 ?_
  refine r_iconst 464 dL_law_463 rfl ic_1 ?_
  refine r_iaddN 465 dL_law_464 rfl ?_
  refine r_scld 466 dL_law_465 rfl hK.1 (6 * c + 1) rfl (by omega) ?_
  refine r_aload_n 467 dL_law_466 rfl rfl lo0 ?_
  refine r_iload_n 468 dL_law_467 rfl rfl lo3 ?_
  refine r_iconst 469 dL_law_468 rfl ic_2 ?_
  refine r_iaddN 470 dL_law_469 rfl ?_
  refine r_scld 471 dL_law_470 rfl hK.1 (6 * c + 2) rfl (by omega) ?_
  refine r_callV (As := [.int (f (6 * c + 1)), .int (f (6 * c + 2))]) rfl 474 dL_law_471 rfl sV_L_53_1 hm1.t (ckL (by decide) (by decide) (by decide) (by decide) (by omega) (by omega) (Nat.le_of_ble_eq_true rfl)) rfl (ev_X1_height hm1 hS) (fun v A2 hQ => ?_)
  obtain ⟨rfl, rfl⟩ := hQ
  have hS2 := hS
  have hm2 := hm1
  have hF2 : Fm w A2 A2 := Fm.rf
  refine r_icmp_eq 1441 477 dL_law_474 rfl (by decide) (fun _ => ?_) (fun h => absurd (rfl) h)
  refine r_wide (44 + 20 * (c + 1)) (42481 + 2000 * (c + 1)) (by omega) (by omega) ?_
  exact K A2 ⟨_, _, _, hm2, hS2, hx1.fm hF2, h9, by rw [hF2.1]; exact Nat.lt_of_lt_of_le h22 hF1.1⟩

set_option maxHeartbeats 4000000 in
theorem lwc_9 {w : WE} {A : Hp} {L c : Nat} {f : Nat → Int32} (hK : LK w L f) (hc : 6 * c + 6 ≤ L) (hV : LV w A) (K : ∀ A' : Hp, LV w A' → Rn w mLw room_1 (ZL w) (44 + 20 * (c + 1)) (42481 + 2000 * (c + 1)) A' 1441 [some (.ref (w.2.2.2.2 0)), some (.ref (wb w)), some (.ref (mb w)), some (.int (nI (6 * c)))] []) : Rn w mLw room_1 (ZL w) (44 + 20 * c) (42481 + 2000 * c) A 479 [some (.ref (w.2.2.2.2 0)), some (.ref (wb w)), some (.ref (mb w)), some (.int (nI (6 * c)))] [] := by
  have hL := hK.1.1
  obtain ⟨m, S, x, hm, hS, hx, h9, h22⟩ := hV
  refine r_aload_n 480 dL_law_479 rfl rfl lo1 ?_
  refine r_aload_n 481 dL_law_480 rfl rfl lo0 ?_
  refine r_iload_n 482 dL_law_481 rfl rfl lo3 ?_
  refine r_iconst 483 dL_law_482 rfl ic_1 ?_
  refine r_iaddN 484 dL_law_483 rfl ?_
  refine r_scld 485 dL_law_484 rfl hK.1 (6 * c + 1) rfl (by omega) ?_
  refine r_aload_n 486 dL_law_485 rfl rfl lo0 ?_
  refine r_iload_n 487 dL_law_486 rfl rfl lo3 ?_
  refine r_iconst 488 dL_law_487 rfl ic_2 ?_
  refine r_iaddN 489 dL_law_488 rfl ?_
  refine r_scld 490 dL_law_489 rfl hK.1 (6 * c + 2) rfl (by omega) ?_
  refine r_callV (As := [.int (f (6 * c + 1)), .int (f (6 * c + 2))]) (st := []) rfl 493 dL_law_490 rfl sV_L_54_0 hx.t (ckL (by decide) (by decide) (by decide) (by decide) (by omega) (by omega) (Nat.le_of_ble_eq_true rfl)) rfl (ev_X0_dry hx) (fun v A1 hQ => ?_)
  obtain ⟨rfl, rfl⟩ := hQ
  have hx1 := hx
  have hF1 : Fx w A1 A1 := Fx.rf
  have hm1 := hm.fx hF1
  refine r_aload_n 494 dL_law_493 rfl rfl lo2 ?_
  refine r_aload_n 495 dL_law_494 rfl rfl lo0 ?_
  refine r_iload_n 496 dL_law_495 rfl rfl lo3 ?_
  refine r_iconst 497 dL_law_496 rfl ic_1 ?_
  refine r_iaddN 498 dL_law_497 rfl ?_
  refine r_scld 499 dL_law_498 rfl hK.1 (6 * c + 1) rfl (by omega) ?_
  refine r_aload_n 500 dL_law_499 rfl rfl lo0 ?_
  refine r_iload_n 501 dL_law_500 rfl rfl lo3 ?_
  refine r_iconst 502 dL_law_501 rfl ic_2 ?_
  refine r_iaddN 503 dL_law_502 rfl ?_
  refine r_scld 504 dL_law_503 rfl hK.1 (6 * c + 2) rfl (by omega) ?_
  refine r_callV (As := [.int (f (6 * c + 1)), .int (f (6 * c + 2))]) rfl 507 dL_law_504 rfl sV_L_57_1 hm1.t (ckL (by decide) (by decide) (by decide) (by decide) (by omega) (by omega) (Nat.le_of_ble_eq_true rfl)) rfl (ev_X1_dry hm1 hS) (fun v A2 hQ => ?_)
  obtain ⟨rfl, rfl⟩ := hQ
  have hS2 := hS
  have hm2 := hm1
  have hF2 : Fm w A2 A2 := Fm.rf
  refine r_icmp_eq 1441 510 dL_law_507 rfl (by decide) (fun _ => ?_) (fun h => absurd (rfl) h)
  refine r_wide (44 + 20 * (c + 1)) (42481 + 2000 * (c + 1)) (by omega) (by omega) ?_
  exact K A2 ⟨_, _, _, hm2, hS2, hx1.fm hF2, h9, by rw [hF2.1]; exact Nat.lt_of_lt_of_le h22 hF1.1⟩

set_option maxHeartbeats 4000000 in
theorem lwc_10 {w : WE} {A : Hp} {L c : Nat} {f : Nat → Int32} (hK : LK w L f) (hc : 6 * c + 6 ≤ L) (hV : LV w A) (K : ∀ A' : Hp, LV w A' → Rn w mLw room_1 (ZL w) (44 + 20 * (c + 1)) (42481 + 2000 * (c + 1)) A' 1441 [some (.ref (w.2.2.2.2 0)), some (.ref (wb w)), some (.ref (mb w)), some (.int (nI (6 * c)))] []) : Rn w mLw room_1 (ZL w) (44 + 20 * c) (42481 + 2000 * c) A 512 [some (.ref (w.2.2.2.2 0)), some (.ref (wb w)), some (.ref (mb w)), some (.int (nI (6 * c)))] [] := by
  have hL := hK.1.1
  obtain ⟨m, S, x, hm, hS, hx, h9, h22⟩ := hV
  refine r_aload_n 513 dL_law_512 rfl rfl lo1 ?_
  refine r_aload_n 514 dL_law_513 rfl rfl lo0 ?_
  refine r_iload_n 515 dL_law_514 rfl rfl lo3 ?_
  refine r_iconst 516 dL_law_515 rfl ic_1 ?_
  refine r_iaddN 517 dL_law_516 rfl ?_
  refine r_scld 518 dL_law_517 rfl hK.1 (6 * c + 1) rfl (by omega) ?_
  refine r_aload_n 519 dL_law_518 rfl rfl lo0 ?_
  refine r_iload_n 520 dL_law_519 rfl rfl lo3 ?_
  refine r_iconst 521 dL_law_520 rfl ic_2 ?_
  refine r_iaddN 522 dL_law_521 rfl ?_
  refine r_scld 523 dL_law_522 rfl hK.1 (6 * c + 2) rfl (by omega) ?_
  refine r_aload_n 524 dL_law_523 rfl rfl lo0 ?_
  refine r_iload_n 525 dL_law_524 rfl rfl lo3 ?_
  refine r_iconst 526 dL_law_525 rfl ic_3 ?_
  refine r_iaddN 527 dL_law_526 rfl ?_
  refine r_scld 528 dL_law_527 rfl hK.1 (6 * c + 3) rfl (by omega) ?_
  refine r_aload_n 529 dL_law_528 rfl rfl lo0 ?_
  refine r_iload_n 530 dL_law_529 rfl rfl lo3 ?_
  refine r_iconst 531 dL_law_530 rfl ic_4 ?_
  refine r_iaddN 532 dL_law_531 rfl ?_
  refine r_scld 533 dL_law_532 rfl hK.1 (6 * c + 4) rfl (by omega) ?_
  refine r_callV (As := [.int (f (6 * c + 1)), .int (f (6 * c + 2)), .int (f (6 * c + 3)), .int (f (6 * c + 4))]) (st := []) rfl 536 dL_law_533 rfl sV_L_58_0 hx.t (ckL (by decide) (by decide) (by decide) (by decide) (by omega) (by omega) (Nat.le_of_ble_eq_true rfl)) rfl (ev_X0_dryHours hx) (fun v A1 hQ => ?_)
  obtain ⟨rfl, rfl⟩ := hQ
  have hx1 := hx
  have hF1 : Fx w A1 A1 := Fx.rf
  have hm1 := hm.fx hF1
  refine r_aload_n 537 dL_law_536 rfl rfl lo2 ?_
  refine r_aload_n 538 dL_law_537 rfl rfl lo0 ?_
  refine r_iload_n 539 dL_law_538 rfl rfl lo3 ?_
  refine r_iconst 540 dL_law_539 rfl ic_1 ?_
  refine r_iaddN 541 dL_law_540 rfl ?_
  refine r_scld 542 dL_law_541 rfl hK.1 (6 * c + 1) rfl (by omega) ?_
  refine r_aload_n 543 dL_law_542 rfl rfl lo0 ?_
  refine r_iload_n 544 dL_law_543 rfl rfl lo3 ?_
  refine r_iconst 545 dL_law_544 rfl ic_2 ?_
  refine r_iaddN 546 dL_law_545 rfl ?_
  refine r_scld 547 dL_law_546 rfl hK.1 (6 * c + 2) rfl (by omega) ?_
  refine r_aload_n 548 dL_law_547 rfl rfl lo0 ?_
  refine r_iload_n 549 dL_law_548 rfl rfl lo3 ?_
  refine r_iconst 550 dL_law_549 rfl ic_3 ?_
  refine r_iaddN 551 dL_law_550 rfl ?_
  refine r_scld 552 dL_law_551 rfl hK.1 (6 * c + 3) rfl (by omega) ?_
  refine r_aload_n 553 dL_law_552 rfl rfl lo0 ?_
  refine r_iload_n 554 dL_law_553 rfl rfl lo3 ?_
  refine r_iconst 555 dL_law_554 rfl ic_4 ?_
  refine r_iaddN 556 dL_law_555 rfl ?_
  refine r_scld 557 dL_law_556 rfl hK.1 (6 * c + 4) rfl (by omega) ?_
  refine r_callV (As := [.int (f (6 * c + 1)), .int (f (6 * c + 2)), .int (f (6 * c + 3)), .int (f (6 * c + 4))]) rfl 560 dL_law_557 rfl sV_L_62_1 hm1.t (ckL (by decide) (by decide) (by decide) (by decide) (by omega) (by omega) (Nat.le_of_ble_eq_true rfl)) rfl (ev_X1_dryHours hm1 hS) (fun v A2 hQ => ?_)
  obtain ⟨rfl, rfl⟩ := hQ
  have hS2 := hS
  have hm2 := hm1
  have hF2 : Fm w A2 A2 := Fm.rf
  refine r_lcmp 561 dL_law_560 rfl ?_
  refine r_if_eq 1441 564 dL_law_561 rfl (by decide) (fun _ => ?_) (fun h => absurd (lg_self _) h)
  refine r_wide (44 + 20 * (c + 1)) (42481 + 2000 * (c + 1)) (by omega) (by omega) ?_
  exact K A2 ⟨_, _, _, hm2, hS2, hx1.fm hF2, h9, by rw [hF2.1]; exact Nat.lt_of_lt_of_le h22 hF1.1⟩

set_option maxHeartbeats 4000000 in
theorem lwc_11 {w : WE} {A : Hp} {L c : Nat} {f : Nat → Int32} (hK : LK w L f) (hc : 6 * c + 6 ≤ L) (hV : LV w A) (K : ∀ A' : Hp, LV w A' → Rn w mLw room_1 (ZL w) (44 + 20 * (c + 1)) (42481 + 2000 * (c + 1)) A' 1441 [some (.ref (w.2.2.2.2 0)), some (.ref (wb w)), some (.ref (mb w)), some (.int (nI (6 * c)))] []) : Rn w mLw room_1 (ZL w) (44 + 20 * c) (42481 + 2000 * c) A 566 [some (.ref (w.2.2.2.2 0)), some (.ref (wb w)), some (.ref (mb w)), some (.int (nI (6 * c)))] [] := by
  have hL := hK.1.1
  obtain ⟨m, S, x, hm, hS, hx, h9, h22⟩ := hV
  refine r_aload_n 567 dL_law_566 rfl rfl lo1 ?_
  refine r_aload_n 568 dL_law_567 rfl rfl lo0 ?_
  refine r_iload_n 569 dL_law_568 rfl rfl lo3 ?_
  refine r_iconst 570 dL_law_569 rfl ic_1 ?_
  refine r_iaddN 571 dL_law_570 rfl ?_
  refine r_scld 572 dL_law_571 rfl hK.1 (6 * c + 1) rfl (by omega) ?_
  refine r_aload_n 573 dL_law_572 rfl rfl lo0 ?_
  refine r_iload_n 574 dL_law_573 rfl rfl lo3 ?_
  refine r_iconst 575 dL_law_574 rfl ic_2 ?_
  refine r_iaddN 576 dL_law_575 rfl ?_
  refine r_scld 577 dL_law_576 rfl hK.1 (6 * c + 2) rfl (by omega) ?_
  refine r_aload_n 578 dL_law_577 rfl rfl lo0 ?_
  refine r_iload_n 579 dL_law_578 rfl rfl lo3 ?_
  refine r_iconst 580 dL_law_579 rfl ic_3 ?_
  refine r_iaddN 581 dL_law_580 rfl ?_
  refine r_scld 582 dL_law_581 rfl hK.1 (6 * c + 3) rfl (by omega) ?_
  refine r_bool 585 586 589 590 dL_law_582 rfl (by decide) dL_law_585 rfl dL_law_586 (by decide) dL_law_589 rfl ?_
  refine r_callV (As := [.int (f (6 * c + 1)), .int (f (6 * c + 2)), .int (bI (!decide ((f (6 * c + 3)) = 0)))]) (st := []) rfl 593 dL_law_590 rfl sV_L_63_0 hx.t (ckL (by decide) (by decide) (by decide) (by decide) (by omega) (by omega) (Nat.le_of_ble_eq_true rfl)) rfl (ev_X0_next hx) (fun v A1 hQ => ?_)
  obtain ⟨rfl, x1, hx1, hF1⟩ := hQ
  have hm1 := hm.fx hF1
  refine r_aload_n 594 dL_law_593 rfl rfl lo2 ?_
  refine r_aload_n 595 dL_law_594 rfl rfl lo0 ?_
  refine r_iload_n 596 dL_law_595 rfl rfl lo3 ?_
  refine r_iconst 597 dL_law_596 rfl ic_1 ?_
  refine r_iaddN 598 dL_law_597 rfl ?_
  refine r_scld 599 dL_law_598 rfl hK.1 (6 * c + 1) rfl (by omega) ?_
  refine r_aload_n 600 dL_law_599 rfl rfl lo0 ?_
  refine r_iload_n 601 dL_law_600 rfl rfl lo3 ?_
  refine r_iconst 602 dL_law_601 rfl ic_2 ?_
  refine r_iaddN 603 dL_law_602 rfl ?_
  refine r_scld 604 dL_law_603 rfl hK.1 (6 * c + 2) rfl (by omega) ?_
  refine r_aload_n 605 dL_law_604 rfl rfl lo0 ?_
  refine r_iload_n 606 dL_law_605 rfl rfl lo3 ?_
  refine r_iconst 607 dL_law_606 rfl ic_3 ?_
  refine r_iaddN 608 dL_law_607 rfl ?_
  refine r_scld 609 dL_law_608 rfl hK.1 (6 * c + 3) rfl (by omega) ?_
  refine r_bool 612 613 616 617 dL_law_609 rfl (by decide) dL_law_612 rfl dL_law_613 (by decide) dL_law_616 rfl ?_
  refine r_callV (As := [.int (f (6 * c + 1)), .int (f (6 * c + 2)), .int (bI (!decide ((f (6 * c + 3)) = 0)))]) rfl 620 dL_law_617 rfl sV_L_67_1 hm1.t (ckL (by decide) (by decide) (by decide) (by decide) (by omega) (by omega) (Nat.le_of_ble_eq_true rfl)) rfl (ev_X1_next hm1 hS) (fun v A2 hQ => ?_)
  obtain ⟨m2, ⟨rfl, hS2⟩, hm2, hF2⟩ := hQ
  refine r_icmp_eq 1441 623 dL_law_620 rfl (by decide) (fun _ => ?_) (fun h => absurd (rfl) h)
  refine r_wide (44 + 20 * (c + 1)) (42481 + 2000 * (c + 1)) (by omega) (by omega) ?_
  exact K A2 ⟨_, _, _, hm2, hS2, hx1.fm hF2, h9, by rw [hF2.1]; exact Nat.lt_of_lt_of_le h22 hF1.1⟩

set_option maxHeartbeats 4000000 in
theorem lwc_12 {w : WE} {A : Hp} {L c : Nat} {f : Nat → Int32} (hK : LK w L f) (hc : 6 * c + 6 ≤ L) (hV : LV w A) (K : ∀ A' : Hp, LV w A' → Rn w mLw room_1 (ZL w) (44 + 20 * (c + 1)) (42481 + 2000 * (c + 1)) A' 1441 [some (.ref (w.2.2.2.2 0)), some (.ref (wb w)), some (.ref (mb w)), some (.int (nI (6 * c)))] []) : Rn w mLw room_1 (ZL w) (44 + 20 * c) (42481 + 2000 * c) A 625 [some (.ref (w.2.2.2.2 0)), some (.ref (wb w)), some (.ref (mb w)), some (.int (nI (6 * c)))] [] := by
  have hL := hK.1.1
  obtain ⟨m, S, x, hm, hS, hx, h9, h22⟩ := hV
  refine r_aload_n 626 dL_law_625 rfl rfl lo1 ?_
  refine r_aload_n 627 dL_law_626 rfl rfl lo0 ?_
  refine r_iload_n 628 dL_law_627 rfl rfl lo3 ?_
  refine r_iconst 629 dL_law_628 rfl ic_1 ?_
  refine r_iaddN 630 dL_law_629 rfl ?_
  refine r_scld 631 dL_law_630 rfl hK.1 (6 * c + 1) rfl (by omega) ?_
  refine r_aload_n 632 dL_law_631 rfl rfl lo0 ?_
  refine r_iload_n 633 dL_law_632 rfl rfl lo3 ?_
  refine r_iconst 634 dL_law_633 rfl ic_2 ?_
  refine r_iaddN 635 dL_law_634 rfl ?_
  refine r_scld 636 dL_law_635 rfl hK.1 (6 * c + 2) rfl (by omega) ?_
  refine r_aload_n 637 dL_law_636 rfl rfl lo0 ?_
  refine r_iload_n 638 dL_law_637 rfl rfl lo3 ?_
  refine r_iconst 639 dL_law_638 rfl ic_3 ?_
  refine r_iaddN 640 dL_law_639 rfl ?_
  refine r_scld 641 dL_law_640 rfl hK.1 (6 * c + 3) rfl (by omega) ?_
  refine r_aload_n 642 dL_law_641 rfl rfl lo0 ?_
  refine r_iload_n 643 dL_law_642 rfl rfl lo3 ?_
  refine r_iconst 644 dL_law_643 rfl ic_4 ?_
  refine r_iaddN 645 dL_law_644 rfl ?_
  refine r_scld 646 dL_law_645 rfl hK.1 (6 * c + 4) rfl (by omega) ?_
  refine r_bool 649 650 653 654 dL_law_646 rfl (by decide) dL_law_649 rfl dL_law_650 (by decide) dL_law_653 rfl ?_
  refine r_callV (As := [.int (f (6 * c + 1)), .int (f (6 * c + 2)), .int (f (6 * c + 3)), .int (bI (!decide ((f (6 * c + 4)) = 0)))]) (st := []) rfl 657 dL_law_654 rfl sV_L_68_0 hx.t (ckL (by decide) (by decide) (by decide) (by decide) (by omega) (by omega) (Nat.le_of_ble_eq_true rfl)) rfl (ev_X0_soonest hx) (fun v A1 hQ => ?_)
  obtain ⟨rfl, x1, hx1, hF1⟩ := hQ
  have hm1 := hm.fx hF1
  refine r_aload_n 658 dL_law_657 rfl rfl lo2 ?_
  refine r_aload_n 659 dL_law_658 rfl rfl lo0 ?_
  refine r_iload_n 660 dL_law_659 rfl rfl lo3 ?_
  refine r_iconst 661 dL_law_660 rfl ic_1 ?_
  refine r_iaddN 662 dL_law_661 rfl ?_
  refine r_scld 663 dL_law_662 rfl hK.1 (6 * c + 1) rfl (by omega) ?_
  refine r_aload_n 664 dL_law_663 rfl rfl lo0 ?_
  refine r_iload_n 665 dL_law_664 rfl rfl lo3 ?_
  refine r_iconst 666 dL_law_665 rfl ic_2 ?_
  refine r_iaddN 667 dL_law_666 rfl ?_
  refine r_scld 668 dL_law_667 rfl hK.1 (6 * c + 2) rfl (by omega) ?_
  refine r_aload_n 669 dL_law_668 rfl rfl lo0 ?_
  refine r_iload_n 670 dL_law_669 rfl rfl lo3 ?_
  refine r_iconst 671 dL_law_670 rfl ic_3 ?_
  refine r_iaddN 672 dL_law_671 rfl ?_
  refine r_scld 673 dL_law_672 rfl hK.1 (6 * c + 3) rfl (by omega) ?_
  refine r_aload_n 674 dL_law_673 rfl rfl lo0 ?_
  refine r_iload_n 675 dL_law_674 rfl rfl lo3 ?_
  refine r_iconst 676 dL_law_675 rfl ic_4 ?_
  refine r_iaddN 677 dL_law_676 rfl ?_
  refine r_scld 678 dL_law_677 rfl hK.1 (6 * c + 4) rfl (by omega) ?_
  refine r_bool 681 682 685 686 dL_law_678 rfl (by decide) dL_law_681 rfl dL_law_682 (by decide) dL_law_685 rfl ?_
  refine r_callV (As := [.int (f (6 * c + 1)), .int (f (6 * c + 2)), .int (f (6 * c + 3)), .int (bI (!decide ((f (6 * c + 4)) = 0)))]) rfl 689 dL_law_686 rfl sV_L_72_1 hm1.t (ckL (by decide) (by decide) (by decide) (by decide) (by omega) (by omega) (Nat.le_of_ble_eq_true rfl)) rfl (ev_X1_soonest hm1 hS) (fun v A2 hQ => ?_)
  obtain ⟨m2, ⟨rfl, hS2⟩, hm2, hF2⟩ := hQ
  refine r_icmp_eq 1441 692 dL_law_689 rfl (by decide) (fun _ => ?_) (fun h => absurd (rfl) h)
  refine r_wide (44 + 20 * (c + 1)) (42481 + 2000 * (c + 1)) (by omega) (by omega) ?_
  exact K A2 ⟨_, _, _, hm2, hS2, hx1.fm hF2, h9, by rw [hF2.1]; exact Nat.lt_of_lt_of_le h22 hF1.1⟩

set_option maxHeartbeats 4000000 in
theorem lwc_13 {w : WE} {A : Hp} {L c : Nat} {f : Nat → Int32} (hK : LK w L f) (hc : 6 * c + 6 ≤ L) (hV : LV w A) (K : ∀ A' : Hp, LV w A' → Rn w mLw room_1 (ZL w) (44 + 20 * (c + 1)) (42481 + 2000 * (c + 1)) A' 1441 [some (.ref (w.2.2.2.2 0)), some (.ref (wb w)), some (.ref (mb w)), some (.int (nI (6 * c)))] []) : Rn w mLw room_1 (ZL w) (44 + 20 * c) (42481 + 2000 * c) A 694 [some (.ref (w.2.2.2.2 0)), some (.ref (wb w)), some (.ref (mb w)), some (.int (nI (6 * c)))] [] := by
  have hL := hK.1.1
  obtain ⟨m, S, x, hm, hS, hx, h9, h22⟩ := hV
  refine r_aload_n 695 dL_law_694 rfl rfl lo1 ?_
  refine r_aload_n 696 dL_law_695 rfl rfl lo0 ?_
  refine r_iload_n 697 dL_law_696 rfl rfl lo3 ?_
  refine r_iconst 698 dL_law_697 rfl ic_1 ?_
  refine r_iaddN 699 dL_law_698 rfl ?_
  refine r_scld 700 dL_law_699 rfl hK.1 (6 * c + 1) rfl (by omega) ?_
  refine r_aload_n 701 dL_law_700 rfl rfl lo0 ?_
  refine r_iload_n 702 dL_law_701 rfl rfl lo3 ?_
  refine r_iconst 703 dL_law_702 rfl ic_2 ?_
  refine r_iaddN 704 dL_law_703 rfl ?_
  refine r_scld 705 dL_law_704 rfl hK.1 (6 * c + 2) rfl (by omega) ?_
  refine r_aload_n 706 dL_law_705 rfl rfl lo0 ?_
  refine r_iload_n 707 dL_law_706 rfl rfl lo3 ?_
  refine r_iconst 708 dL_law_707 rfl ic_3 ?_
  refine r_iaddN 709 dL_law_708 rfl ?_
  refine r_scld 710 dL_law_709 rfl hK.1 (6 * c + 3) rfl (by omega) ?_
  refine r_aload_n 711 dL_law_710 rfl rfl lo0 ?_
  refine r_iload_n 712 dL_law_711 rfl rfl lo3 ?_
  refine r_iconst 713 dL_law_712 rfl ic_4 ?_
  refine r_iaddN 714 dL_law_713 rfl ?_
  refine r_scld 715 dL_law_714 rfl hK.1 (6 * c + 4) rfl (by omega) ?_
  refine r_bool 718 719 722 723 dL_law_715 rfl (by decide) dL_law_718 rfl dL_law_719 (by decide) dL_law_722 rfl ?_
  refine r_aload_n 724 dL_law_723 rfl rfl lo0 ?_
  refine r_iload_n 725 dL_law_724 rfl rfl lo3 ?_
  refine r_iconst 726 dL_law_725 rfl ic_5 ?_
  refine r_iaddN 727 dL_law_726 rfl ?_
  refine r_scld 728 dL_law_727 rfl hK.1 (6 * c + 5) rfl (by omega) ?_
  refine r_callV (As := [.int (f (6 * c + 1)), .int (f (6 * c + 2)), .int (f (6 * c + 3)), .int (bI (!decide ((f (6 * c + 4)) = 0))), .int (f (6 * c + 5))]) (st := []) rfl 731 dL_law_728 rfl sV_L_73_0 hx.t (ckL (by decide) (by decide) (by decide) (by decide) (by omega) (by omega) (Nat.le_of_ble_eq_true rfl)) rfl (ev_X0_way hx) (fun v A1 hQ => ?_)
  obtain ⟨rfl, x1, hx1, hF1⟩ := hQ
  have hm1 := hm.fx hF1
  refine r_aload_n 732 dL_law_731 rfl rfl lo2 ?_
  refine r_aload_n 733 dL_law_732 rfl rfl lo0 ?_
  refine r_iload_n 734 dL_law_733 rfl rfl lo3 ?_
  refine r_iconst 735 dL_law_734 rfl ic_1 ?_
  refine r_iaddN 736 dL_law_735 rfl ?_
  refine r_scld 737 dL_law_736 rfl hK.1 (6 * c + 1) rfl (by omega) ?_
  refine r_aload_n 738 dL_law_737 rfl rfl lo0 ?_
  refine r_iload_n 739 dL_law_738 rfl rfl lo3 ?_
  refine r_iconst 740 dL_law_739 rfl ic_2 ?_
  refine r_iaddN 741 dL_law_740 rfl ?_
  refine r_scld 742 dL_law_741 rfl hK.1 (6 * c + 2) rfl (by omega) ?_
  refine r_aload_n 743 dL_law_742 rfl rfl lo0 ?_
  refine r_iload_n 744 dL_law_743 rfl rfl lo3 ?_
  refine r_iconst 745 dL_law_744 rfl ic_3 ?_
  refine r_iaddN 746 dL_law_745 rfl ?_
  refine r_scld 747 dL_law_746 rfl hK.1 (6 * c + 3) rfl (by omega) ?_
  refine r_aload_n 748 dL_law_747 rfl rfl lo0 ?_
  refine r_iload_n 749 dL_law_748 rfl rfl lo3 ?_
  refine r_iconst 750 dL_law_749 rfl ic_4 ?_
  refine r_iaddN 751 dL_law_750 rfl ?_
  refine r_scld 752 dL_law_751 rfl hK.1 (6 * c + 4) rfl (by omega) ?_
  refine r_bool 755 756 759 760 dL_law_752 rfl (by decide) dL_law_755 rfl dL_law_756 (by decide) dL_law_759 rfl ?_
  refine r_aload_n 761 dL_law_760 rfl rfl lo0 ?_
  refine r_iload_n 762 dL_law_761 rfl rfl lo3 ?_
  refine r_iconst 763 dL_law_762 rfl ic_5 ?_
  refine r_iaddN 764 dL_law_763 rfl ?_
  refine r_scld 765 dL_law_764 rfl hK.1 (6 * c + 5) rfl (by omega) ?_
  refine r_callV (As := [.int (f (6 * c + 1)), .int (f (6 * c + 2)), .int (f (6 * c + 3)), .int (bI (!decide ((f (6 * c + 4)) = 0))), .int (f (6 * c + 5))]) rfl 768 dL_law_765 rfl sV_L_77_1 hm1.t (ckL (by decide) (by decide) (by decide) (by decide) (by omega) (by omega) (Nat.le_of_ble_eq_true rfl)) rfl (ev_X1_way hm1 hS) (fun v A2 hQ => ?_)
  obtain ⟨m2, ⟨rfl, hS2⟩, hm2, hF2⟩ := hQ
  refine r_icmp_eq 1441 771 dL_law_768 rfl (by decide) (fun _ => ?_) (fun h => absurd (rfl) h)
  refine r_wide (44 + 20 * (c + 1)) (42481 + 2000 * (c + 1)) (by omega) (by omega) ?_
  exact K A2 ⟨_, _, _, hm2, hS2, hx1.fm hF2, h9, by rw [hF2.1]; exact Nat.lt_of_lt_of_le h22 hF1.1⟩

set_option maxHeartbeats 4000000 in
theorem lwc_14 {w : WE} {A : Hp} {L c : Nat} {f : Nat → Int32} (hK : LK w L f) (hc : 6 * c + 6 ≤ L) (hV : LV w A) (K : ∀ A' : Hp, LV w A' → Rn w mLw room_1 (ZL w) (44 + 20 * (c + 1)) (42481 + 2000 * (c + 1)) A' 1441 [some (.ref (w.2.2.2.2 0)), some (.ref (wb w)), some (.ref (mb w)), some (.int (nI (6 * c)))] []) : Rn w mLw room_1 (ZL w) (44 + 20 * c) (42481 + 2000 * c) A 773 [some (.ref (w.2.2.2.2 0)), some (.ref (wb w)), some (.ref (mb w)), some (.int (nI (6 * c)))] [] := by
  have hL := hK.1.1
  obtain ⟨m, S, x, hm, hS, hx, h9, h22⟩ := hV
  refine r_aload_n 774 dL_law_773 rfl rfl lo1 ?_
  refine r_aload_n 775 dL_law_774 rfl rfl lo0 ?_
  refine r_iload_n 776 dL_law_775 rfl rfl lo3 ?_
  refine r_iconst 777 dL_law_776 rfl ic_1 ?_
  refine r_iaddN 778 dL_law_777 rfl ?_
  refine r_scld 779 dL_law_778 rfl hK.1 (6 * c + 1) rfl (by omega) ?_
  refine r_aload_n 780 dL_law_779 rfl rfl lo0 ?_
  refine r_iload_n 781 dL_law_780 rfl rfl lo3 ?_
  refine r_iconst 782 dL_law_781 rfl ic_2 ?_
  refine r_iaddN 783 dL_law_782 rfl ?_
  refine r_scld 784 dL_law_783 rfl hK.1 (6 * c + 2) rfl (by omega) ?_
  refine r_aload_n 785 dL_law_784 rfl rfl lo0 ?_
  refine r_iload_n 786 dL_law_785 rfl rfl lo3 ?_
  refine r_iconst 787 dL_law_786 rfl ic_3 ?_
  refine r_iaddN 788 dL_law_787 rfl ?_
  refine r_scld 789 dL_law_788 rfl hK.1 (6 * c + 3) rfl (by omega) ?_
  refine r_aload_n 790 dL_law_789 rfl rfl lo0 ?_
  refine r_iload_n 791 dL_law_790 rfl rfl lo3 ?_
  refine r_iconst 792 dL_law_791 rfl ic_4 ?_
  refine r_iaddN 793 dL_law_792 rfl ?_
  refine r_scld 794 dL_law_793 rfl hK.1 (6 * c + 4) rfl (by omega) ?_
  refine r_bool 797 798 801 802 dL_law_794 rfl (by decide) dL_law_797 rfl dL_law_798 (by decide) dL_law_801 rfl ?_
  refine r_callV (As := [.int (f (6 * c + 1)), .int (f (6 * c + 2)), .int (f (6 * c + 3)), .int (bI (!decide ((f (6 * c + 4)) = 0)))]) (st := []) rfl 805 dL_law_802 rfl sV_L_78_0 hx.t (ckL (by decide) (by decide) (by decide) (by decide) (by omega) (by omega) (Nat.le_of_ble_eq_true rfl)) rfl (ev_X0_latest hx) (fun v A1 hQ => ?_)
  obtain ⟨rfl, x1, hx1, hF1⟩ := hQ
  have hm1 := hm.fx hF1
  refine r_aload_n 806 dL_law_805 rfl rfl lo2 ?_
  refine r_aload_n 807 dL_law_806 rfl rfl lo0 ?_
  refine r_iload_n 808 dL_law_807 rfl rfl lo3 ?_
  refine r_iconst 809 dL_law_808 rfl ic_1 ?_
  refine r_iaddN 810 dL_law_809 rfl ?_
  refine r_scld 811 dL_law_810 rfl hK.1 (6 * c + 1) rfl (by omega) ?_
  refine r_aload_n 812 dL_law_811 rfl rfl lo0 ?_
  refine r_iload_n 813 dL_law_812 rfl rfl lo3 ?_
  refine r_iconst 814 dL_law_813 rfl ic_2 ?_
  refine r_iaddN 815 dL_law_814 rfl ?_
  refine r_scld 816 dL_law_815 rfl hK.1 (6 * c + 2) rfl (by omega) ?_
  refine r_aload_n 817 dL_law_816 rfl rfl lo0 ?_
  refine r_iload_n 818 dL_law_817 rfl rfl lo3 ?_
  refine r_iconst 819 dL_law_818 rfl ic_3 ?_
  refine r_iaddN 820 dL_law_819 rfl ?_
  refine r_scld 821 dL_law_820 rfl hK.1 (6 * c + 3) rfl (by omega) ?_
  refine r_aload_n 822 dL_law_821 rfl rfl lo0 ?_
  refine r_iload_n 823 dL_law_822 rfl rfl lo3 ?_
  refine r_iconst 824 dL_law_823 rfl ic_4 ?_
  refine r_iaddN 825 dL_law_824 rfl ?_
  refine r_scld 826 dL_law_825 rfl hK.1 (6 * c + 4) rfl (by omega) ?_
  refine r_bool 829 830 833 834 dL_law_826 rfl (by decide) dL_law_829 rfl dL_law_830 (by decide) dL_law_833 rfl ?_
  refine r_callV (As := [.int (f (6 * c + 1)), .int (f (6 * c + 2)), .int (f (6 * c + 3)), .int (bI (!decide ((f (6 * c + 4)) = 0)))]) rfl 837 dL_law_834 rfl sV_L_81_1 hm1.t (ckL (by decide) (by decide) (by decide) (by decide) (by omega) (by omega) (Nat.le_of_ble_eq_true rfl)) rfl (ev_X1_latest hm1 hS) (fun v A2 hQ => ?_)
  obtain ⟨m2, ⟨rfl, hS2⟩, hm2, hF2⟩ := hQ
  refine r_icmp_eq 1441 840 dL_law_837 rfl (by decide) (fun _ => ?_) (fun h => absurd (rfl) h)
  refine r_wide (44 + 20 * (c + 1)) (42481 + 2000 * (c + 1)) (by omega) (by omega) ?_
  exact K A2 ⟨_, _, _, hm2, hS2, hx1.fm hF2, h9, by rw [hF2.1]; exact Nat.lt_of_lt_of_le h22 hF1.1⟩

set_option maxHeartbeats 4000000 in
theorem lwc_15 {w : WE} {A : Hp} {L c : Nat} {f : Nat → Int32} (hK : LK w L f) (hc : 6 * c + 6 ≤ L) (hV : LV w A) (K : ∀ A' : Hp, LV w A' → Rn w mLw room_1 (ZL w) (44 + 20 * (c + 1)) (42481 + 2000 * (c + 1)) A' 1441 [some (.ref (w.2.2.2.2 0)), some (.ref (wb w)), some (.ref (mb w)), some (.int (nI (6 * c)))] []) : Rn w mLw room_1 (ZL w) (44 + 20 * c) (42481 + 2000 * c) A 842 [some (.ref (w.2.2.2.2 0)), some (.ref (wb w)), some (.ref (mb w)), some (.int (nI (6 * c)))] [] := by
  have hL := hK.1.1
  obtain ⟨m, S, x, hm, hS, hx, h9, h22⟩ := hV
  refine r_aload_n 843 dL_law_842 rfl rfl lo1 ?_
  refine r_aload_n 844 dL_law_843 rfl rfl lo0 ?_
  refine r_iload_n 845 dL_law_844 rfl rfl lo3 ?_
  refine r_iconst 846 dL_law_845 rfl ic_1 ?_
  refine r_iaddN 847 dL_law_846 rfl ?_
  refine r_scld 848 dL_law_847 rfl hK.1 (6 * c + 1) rfl (by omega) ?_
  refine r_aload_n 849 dL_law_848 rfl rfl lo0 ?_
  refine r_iload_n 850 dL_law_849 rfl rfl lo3 ?_
  refine r_iconst 851 dL_law_850 rfl ic_2 ?_
  refine r_iaddN 852 dL_law_851 rfl ?_
  refine r_scld 853 dL_law_852 rfl hK.1 (6 * c + 2) rfl (by omega) ?_
  refine r_aload_n 854 dL_law_853 rfl rfl lo0 ?_
  refine r_iload_n 855 dL_law_854 rfl rfl lo3 ?_
  refine r_iconst 856 dL_law_855 rfl ic_3 ?_
  refine r_iaddN 857 dL_law_856 rfl ?_
  refine r_scld 858 dL_law_857 rfl hK.1 (6 * c + 3) rfl (by omega) ?_
  refine r_callV (As := [.int (f (6 * c + 1)), .int (f (6 * c + 2)), .int (f (6 * c + 3))]) (st := []) rfl 861 dL_law_858 rfl sV_L_82_0 hx.t (ckL (by decide) (by decide) (by decide) (by decide) (by omega) (by omega) (Nat.le_of_ble_eq_true rfl)) rfl (ev_X0_round hx) (fun v A1 hQ => ?_)
  obtain ⟨rfl, x1, hx1, hF1⟩ := hQ
  have hm1 := hm.fx hF1
  refine r_aload_n 862 dL_law_861 rfl rfl lo2 ?_
  refine r_aload_n 863 dL_law_862 rfl rfl lo0 ?_
  refine r_iload_n 864 dL_law_863 rfl rfl lo3 ?_
  refine r_iconst 865 dL_law_864 rfl ic_1 ?_
  refine r_iaddN 866 dL_law_865 rfl ?_
  refine r_scld 867 dL_law_866 rfl hK.1 (6 * c + 1) rfl (by omega) ?_
  refine r_aload_n 868 dL_law_867 rfl rfl lo0 ?_
  refine r_iload_n 869 dL_law_868 rfl rfl lo3 ?_
  refine r_iconst 870 dL_law_869 rfl ic_2 ?_
  refine r_iaddN 871 dL_law_870 rfl ?_
  refine r_scld 872 dL_law_871 rfl hK.1 (6 * c + 2) rfl (by omega) ?_
  refine r_aload_n 873 dL_law_872 rfl rfl lo0 ?_
  refine r_iload_n 874 dL_law_873 rfl rfl lo3 ?_
  refine r_iconst 875 dL_law_874 rfl ic_3 ?_
  refine r_iaddN 876 dL_law_875 rfl ?_
  refine r_scld 877 dL_law_876 rfl hK.1 (6 * c + 3) rfl (by omega) ?_
  refine r_callV (As := [.int (f (6 * c + 1)), .int (f (6 * c + 2)), .int (f (6 * c + 3))]) rfl 880 dL_law_877 rfl sV_L_86_1 hm1.t (ckL (by decide) (by decide) (by decide) (by decide) (by omega) (by omega) (Nat.le_of_ble_eq_true rfl)) rfl (ev_X1_round hm1 hS) (fun v A2 hQ => ?_)
  obtain ⟨m2, ⟨rfl, hS2⟩, hm2, hF2⟩ := hQ
  refine r_icmp_eq 1441 883 dL_law_880 rfl (by decide) (fun _ => ?_) (fun h => absurd (rfl) h)
  refine r_wide (44 + 20 * (c + 1)) (42481 + 2000 * (c + 1)) (by omega) (by omega) ?_
  exact K A2 ⟨_, _, _, hm2, hS2, hx1.fm hF2, h9, by rw [hF2.1]; exact Nat.lt_of_lt_of_le h22 hF1.1⟩

set_option maxHeartbeats 4000000 in
theorem lwc_16 {w : WE} {A : Hp} {L c : Nat} {f : Nat → Int32} (hK : LK w L f) (hc : 6 * c + 6 ≤ L) (hV : LV w A) (K : ∀ A' : Hp, LV w A' → Rn w mLw room_1 (ZL w) (44 + 20 * (c + 1)) (42481 + 2000 * (c + 1)) A' 1441 [some (.ref (w.2.2.2.2 0)), some (.ref (wb w)), some (.ref (mb w)), some (.int (nI (6 * c)))] []) : Rn w mLw room_1 (ZL w) (44 + 20 * c) (42481 + 2000 * c) A 885 [some (.ref (w.2.2.2.2 0)), some (.ref (wb w)), some (.ref (mb w)), some (.int (nI (6 * c)))] [] := by
  have hL := hK.1.1
  obtain ⟨m, S, x, hm, hS, hx, h9, h22⟩ := hV
  refine r_aload_n 886 dL_law_885 rfl rfl lo1 ?_
  refine r_aload_n 887 dL_law_886 rfl rfl lo0 ?_
  refine r_iload_n 888 dL_law_887 rfl rfl lo3 ?_
  refine r_iconst 889 dL_law_888 rfl ic_1 ?_
  refine r_iaddN 890 dL_law_889 rfl ?_
  refine r_scld 891 dL_law_890 rfl hK.1 (6 * c + 1) rfl (by omega) ?_
  refine r_aload_n 892 dL_law_891 rfl rfl lo0 ?_
  refine r_iload_n 893 dL_law_892 rfl rfl lo3 ?_
  refine r_iconst 894 dL_law_893 rfl ic_2 ?_
  refine r_iaddN 895 dL_law_894 rfl ?_
  refine r_scld 896 dL_law_895 rfl hK.1 (6 * c + 2) rfl (by omega) ?_
  refine r_aload_n 897 dL_law_896 rfl rfl lo0 ?_
  refine r_iload_n 898 dL_law_897 rfl rfl lo3 ?_
  refine r_iconst 899 dL_law_898 rfl ic_3 ?_
  refine r_iaddN 900 dL_law_899 rfl ?_
  refine r_scld 901 dL_law_900 rfl hK.1 (6 * c + 3) rfl (by omega) ?_
  refine r_callV (As := [.int (f (6 * c + 1)), .int (f (6 * c + 2)), .int (f (6 * c + 3))]) (st := []) rfl 904 dL_law_901 rfl sV_L_87_0 hx.t (ckL (by decide) (by decide) (by decide) (by decide) (by omega) (by omega) (Nat.le_of_ble_eq_true rfl)) rfl (ev_X0_meeting hx) (fun v A1 hQ => ?_)
  obtain ⟨rfl, x1, hx1, hF1⟩ := hQ
  have hm1 := hm.fx hF1
  refine r_aload_n 905 dL_law_904 rfl rfl lo2 ?_
  refine r_aload_n 906 dL_law_905 rfl rfl lo0 ?_
  refine r_iload_n 907 dL_law_906 rfl rfl lo3 ?_
  refine r_iconst 908 dL_law_907 rfl ic_1 ?_
  refine r_iaddN 909 dL_law_908 rfl ?_
  refine r_scld 910 dL_law_909 rfl hK.1 (6 * c + 1) rfl (by omega) ?_
  refine r_aload_n 911 dL_law_910 rfl rfl lo0 ?_
  refine r_iload_n 912 dL_law_911 rfl rfl lo3 ?_
  refine r_iconst 913 dL_law_912 rfl ic_2 ?_
  refine r_iaddN 914 dL_law_913 rfl ?_
  refine r_scld 915 dL_law_914 rfl hK.1 (6 * c + 2) rfl (by omega) ?_
  refine r_aload_n 916 dL_law_915 rfl rfl lo0 ?_
  refine r_iload_n 917 dL_law_916 rfl rfl lo3 ?_
  refine r_iconst 918 dL_law_917 rfl ic_3 ?_
  refine r_iaddN 919 dL_law_918 rfl ?_
  refine r_scld 920 dL_law_919 rfl hK.1 (6 * c + 3) rfl (by omega) ?_
  refine r_callV (As := [.int (f (6 * c + 1)), .int (f (6 * c + 2)), .int (f (6 * c + 3))]) rfl 923 dL_law_920 rfl sV_L_90_1 hm1.t (ckL (by decide) (by decide) (by decide) (by decide) (by omega) (by omega) (Nat.le_of_ble_eq_true rfl)) rfl (ev_X1_meeting hm1 hS) (fun v A2 hQ => ?_)
  obtain ⟨m2, ⟨rfl, hS2⟩, hm2, hF2⟩ := hQ
  refine r_icmp_eq 1441 926 dL_law_923 rfl (by decide) (fun _ => ?_) (fun h => absurd (rfl) h)
  refine r_wide (44 + 20 * (c + 1)) (42481 + 2000 * (c + 1)) (by omega) (by omega) ?_
  exact K A2 ⟨_, _, _, hm2, hS2, hx1.fm hF2, h9, by rw [hF2.1]; exact Nat.lt_of_lt_of_le h22 hF1.1⟩

set_option maxHeartbeats 4000000 in
theorem lwc_17 {w : WE} {A : Hp} {L c : Nat} {f : Nat → Int32} (hK : LK w L f) (hc : 6 * c + 6 ≤ L) (hV : LV w A) (K : ∀ A' : Hp, LV w A' → Rn w mLw room_1 (ZL w) (44 + 20 * (c + 1)) (42481 + 2000 * (c + 1)) A' 1441 [some (.ref (w.2.2.2.2 0)), some (.ref (wb w)), some (.ref (mb w)), some (.int (nI (6 * c)))] []) : Rn w mLw room_1 (ZL w) (44 + 20 * c) (42481 + 2000 * c) A 928 [some (.ref (w.2.2.2.2 0)), some (.ref (wb w)), some (.ref (mb w)), some (.int (nI (6 * c)))] [] := by
  have hL := hK.1.1
  obtain ⟨m, S, x, hm, hS, hx, h9, h22⟩ := hV
  refine r_aload_n 929 dL_law_928 rfl rfl lo1 ?_
  refine r_aload_n 930 dL_law_929 rfl rfl lo0 ?_
  refine r_iload_n 931 dL_law_930 rfl rfl lo3 ?_
  refine r_iconst 932 dL_law_931 rfl ic_1 ?_
  refine r_iaddN 933 dL_law_932 rfl ?_
  refine r_scld 934 dL_law_933 rfl hK.1 (6 * c + 1) rfl (by omega) ?_
  refine r_aload_n 935 dL_law_934 rfl rfl lo0 ?_
  refine r_iload_n 936 dL_law_935 rfl rfl lo3 ?_
  refine r_iconst 937 dL_law_936 rfl ic_2 ?_
  refine r_iaddN 938 dL_law_937 rfl ?_
  refine r_scld 939 dL_law_938 rfl hK.1 (6 * c + 2) rfl (by omega) ?_
  refine r_aload_n 940 dL_law_939 rfl rfl lo0 ?_
  refine r_iload_n 941 dL_law_940 rfl rfl lo3 ?_
  refine r_iconst 942 dL_law_941 rfl ic_3 ?_
  refine r_iaddN 943 dL_law_942 rfl ?_
  refine r_scld 944 dL_law_943 rfl hK.1 (6 * c + 3) rfl (by omega) ?_
  refine r_aload_n 945 dL_law_944 rfl rfl lo0 ?_
  refine r_iload_n 946 dL_law_945 rfl rfl lo3 ?_
  refine r_iconst 947 dL_law_946 rfl ic_4 ?_
  refine r_iaddN 948 dL_law_947 rfl ?_
  refine r_scld 949 dL_law_948 rfl hK.1 (6 * c + 4) rfl (by omega) ?_
  refine r_callV (As := [.int (f (6 * c + 1)), .int (f (6 * c + 2)), .int (f (6 * c + 3)), .int (f (6 * c + 4))]) (st := []) rfl 952 dL_law_949 rfl sV_L_91_0 hx.t (ckL (by decide) (by decide) (by decide) (by decide) (by omega) (by omega) (Nat.le_of_ble_eq_true rfl)) rfl (ev_X0_saves hx h9.1) (fun v A1 hQ => ?_)
  obtain ⟨rfl, x1, hx1, hF1⟩ := hQ
  have hm1 := hm.fx hF1
  refine r_aload_n 953 dL_law_952 rfl rfl lo2 ?_
  refine r_aload_n 954 dL_law_953 rfl rfl lo0 ?_
  refine r_iload_n 955 dL_law_954 rfl rfl lo3 ?_
  refine r_iconst 956 dL_law_955 rfl ic_1 ?_
  refine r_iaddN 957 dL_law_956 rfl ?_
  refine r_scld 958 dL_law_957 rfl hK.1 (6 * c + 1) rfl (by omega) ?_
  refine r_aload_n 959 dL_law_958 rfl rfl lo0 ?_
  refine r_iload_n 960 dL_law_959 rfl rfl lo3 ?_
  refine r_iconst 961 dL_law_960 rfl ic_2 ?_
  refine r_iaddN 962 dL_law_961 rfl ?_
  refine r_scld 963 dL_law_962 rfl hK.1 (6 * c + 2) rfl (by omega) ?_
  refine r_aload_n 964 dL_law_963 rfl rfl lo0 ?_
  refine r_iload_n 965 dL_law_964 rfl rfl lo3 ?_
  refine r_iconst 966 dL_law_965 rfl ic_3 ?_
  refine r_iaddN 967 dL_law_966 rfl ?_
  refine r_scld 968 dL_law_967 rfl hK.1 (6 * c + 3) rfl (by omega) ?_
  refine r_aload_n 969 dL_law_968 rfl rfl lo0 ?_
  refine r_iload_n 970 dL_law_969 rfl rfl lo3 ?_
  refine r_iconst 971 dL_law_970 rfl ic_4 ?_
  refine r_iaddN 972 dL_law_971 rfl ?_
  refine r_scld 973 dL_law_972 rfl hK.1 (6 * c + 4) rfl (by omega) ?_
  refine r_callV (As := [.int (f (6 * c + 1)), .int (f (6 * c + 2)), .int (f (6 * c + 3)), .int (f (6 * c + 4))]) rfl 976 dL_law_973 rfl sV_L_94_1 hm1.t (ckL (by decide) (by decide) (by decide) (by decide) (by omega) (by omega) (Nat.le_of_ble_eq_true rfl)) rfl (ev_X1_saves hm1 hS h9.1) (fun v A2 hQ => ?_)
  obtain ⟨m2, ⟨rfl, hS2⟩, hm2, hF2⟩ := hQ
  refine r_icmp_eq 1441 979 dL_law_976 rfl (by decide) (fun _ => ?_) (fun h => absurd (rfl) h)
  refine r_wide (44 + 20 * (c + 1)) (42481 + 2000 * (c + 1)) (by omega) (by omega) ?_
  exact K A2 ⟨_, _, _, hm2, hS2, hx1.fm hF2, h9, by rw [hF2.1]; exact Nat.lt_of_lt_of_le h22 hF1.1⟩

set_option maxHeartbeats 4000000 in
theorem lwc_18 {w : WE} {A : Hp} {L c : Nat} {f : Nat → Int32} (hK : LK w L f) (hc : 6 * c + 6 ≤ L) (hV : LV w A) (K : ∀ A' : Hp, LV w A' → Rn w mLw room_1 (ZL w) (44 + 20 * (c + 1)) (42481 + 2000 * (c + 1)) A' 1441 [some (.ref (w.2.2.2.2 0)), some (.ref (wb w)), some (.ref (mb w)), some (.int (nI (6 * c)))] []) : Rn w mLw room_1 (ZL w) (44 + 20 * c) (42481 + 2000 * c) A 981 [some (.ref (w.2.2.2.2 0)), some (.ref (wb w)), some (.ref (mb w)), some (.int (nI (6 * c)))] [] := by
  have hL := hK.1.1
  obtain ⟨m, S, x, hm, hS, hx, h9, h22⟩ := hV
  refine r_aload_n 982 dL_law_981 rfl rfl lo1 ?_
  refine r_aload_n 983 dL_law_982 rfl rfl lo0 ?_
  refine r_iload_n 984 dL_law_983 rfl rfl lo3 ?_
  refine r_iconst 985 dL_law_984 rfl ic_1 ?_
  refine r_iaddN 986 dL_law_985 rfl ?_
  refine r_scld 987 dL_law_986 rfl hK.1 (6 * c + 1) rfl (by omega) ?_
  refine r_aload_n 988 dL_law_987 rfl rfl lo0 ?_
  refine r_iload_n 989 dL_law_988 rfl rfl lo3 ?_
  refine r_iconst 990 dL_law_989 rfl ic_2 ?_
  refine r_iaddN 991 dL_law_990 rfl ?_
  refine r_scld 992 dL_law_991 rfl hK.1 (6 * c + 2) rfl (by omega) ?_
  refine r_aload_n 993 dL_law_992 rfl rfl lo0 ?_
  refine r_iload_n 994 dL_law_993 rfl rfl lo3 ?_
  refine r_iconst 995 dL_law_994 rfl ic_3 ?_
  refine r_iaddN 996 dL_law_995 rfl ?_
  refine r_scld 997 dL_law_996 rfl hK.1 (6 * c + 3) rfl (by omega) ?_
  refine r_aload_n 998 dL_law_997 rfl rfl lo0 ?_
  refine r_iload_n 999 dL_law_998 rfl rfl lo3 ?_
  refine r_iconst 1000 dL_law_999 rfl ic_4 ?_
  refine r_iaddN 1001 dL_law_1000 rfl ?_
  refine r_scld 1002 dL_law_1001 rfl hK.1 (6 * c + 4) rfl (by omega) ?_
  refine r_aload_n 1003 dL_law_1002 rfl rfl lo0 ?_
  refine r_iload_n 1004 dL_law_1003 rfl rfl lo3 ?_
  refine r_iconst 1005 dL_law_1004 rfl ic_5 ?_
  refine r_iaddN 1006 dL_law_1005 rfl ?_
  refine r_scld 1007 dL_law_1006 rfl hK.1 (6 * c + 5) rfl (by omega) ?_
  refine r_callV (As := [.int (f (6 * c + 1)), .int (f (6 * c + 2)), .int (f (6 * c + 3)), .int (f (6 * c + 4)), .int (f (6 * c + 5))]) (st := []) rfl 1010 dL_law_1007 rfl sV_L_95_0 hx.t (ckL (by decide) (by decide) (by decide) (by decide) (by omega) (by omega) (Nat.le_of_ble_eq_true rfl)) rfl (ev_X0_table hx h22 hK.2.1 hK.2.2.1) (fun v A1 hQ => ?_)
  obtain ⟨rfl, x1, hx1, hF1⟩ := hQ
  have hm1 := hm.fx hF1
  refine r_aload_n 1011 dL_law_1010 rfl rfl lo2 ?_
  refine r_aload_n 1012 dL_law_1011 rfl rfl lo0 ?_
  refine r_iload_n 1013 dL_law_1012 rfl rfl lo3 ?_
  refine r_iconst 1014 dL_law_1013 rfl ic_1 ?_
  refine r_iaddN 1015 dL_law_1014 rfl ?_
  refine r_scld 1016 dL_law_1015 rfl hK.1 (6 * c + 1) rfl (by omega) ?_
  refine r_aload_n 1017 dL_law_1016 rfl rfl lo0 ?_
  refine r_iload_n 1018 dL_law_1017 rfl rfl lo3 ?_
  refine r_iconst 1019 dL_law_1018 rfl ic_2 ?_
  refine r_iaddN 1020 dL_law_1019 rfl ?_
  refine r_scld 1021 dL_law_1020 rfl hK.1 (6 * c + 2) rfl (by omega) ?_
  refine r_aload_n 1022 dL_law_1021 rfl rfl lo0 ?_
  refine r_iload_n 1023 dL_law_1022 rfl rfl lo3 ?_
  refine r_iconst 1024 dL_law_1023 rfl ic_3 ?_
  refine r_iaddN 1025 dL_law_1024 rfl ?_
  refine r_scld 1026 dL_law_1025 rfl hK.1 (6 * c + 3) rfl (by omega) ?_
  refine r_aload_n 1027 dL_law_1026 rfl rfl lo0 ?_
  refine r_iload_n 1028 dL_law_1027 rfl rfl lo3 ?_
  refine r_iconst 1029 dL_law_1028 rfl ic_4 ?_
  refine r_iaddN 1030 dL_law_1029 rfl ?_
  refine r_scld 1031 dL_law_1030 rfl hK.1 (6 * c + 4) rfl (by omega) ?_
  refine r_aload_n 1032 dL_law_1031 rfl rfl lo0 ?_
  refine r_iload_n 1033 dL_law_1032 rfl rfl lo3 ?_
  refine r_iconst 1034 dL_law_1033 rfl ic_5 ?_
  refine r_iaddN 1035 dL_law_1034 rfl ?_
  refine r_scld 1036 dL_law_1035 rfl hK.1 (6 * c + 5) rfl (by omega) ?_
  refine r_callV (As := [.int (f (6 * c + 1)), .int (f (6 * c + 2)), .int (f (6 * c + 3)), .int (f (6 * c + 4)), .int (f (6 * c + 5))]) rfl 1039 dL_law_1036 rfl sV_L_98_1 hm1.t (ckL (by decide) (by decide) (by decide) (by decide) (by omega) (by omega) (Nat.le_of_ble_eq_true rfl)) rfl (ev_X1_table hm1 hS) (fun v A2 hQ => ?_)
  obtain ⟨m2, ⟨rfl, hS2⟩, hm2, hF2⟩ := hQ
  refine r_icmp_eq 1441 1042 dL_law_1039 rfl (by decide) (fun _ => ?_) (fun h => absurd (rfl) h)
  refine r_wide (44 + 20 * (c + 1)) (42481 + 2000 * (c + 1)) (by omega) (by omega) ?_
  exact K A2 ⟨_, _, _, hm2, hS2, hx1.fm hF2, s9_table h9, by rw [hF2.1]; exact Nat.lt_of_lt_of_le h22 hF1.1⟩

set_option maxHeartbeats 4000000 in
theorem lwc_19 {w : WE} {A : Hp} {L c : Nat} {f : Nat → Int32} (hK : LK w L f) (hc : 6 * c + 6 ≤ L) (hV : LV w A) (K : ∀ A' : Hp, LV w A' → Rn w mLw room_1 (ZL w) (44 + 20 * (c + 1)) (42481 + 2000 * (c + 1)) A' 1441 [some (.ref (w.2.2.2.2 0)), some (.ref (wb w)), some (.ref (mb w)), some (.int (nI (6 * c)))] []) : Rn w mLw room_1 (ZL w) (44 + 20 * c) (42481 + 2000 * c) A 1044 [some (.ref (w.2.2.2.2 0)), some (.ref (wb w)), some (.ref (mb w)), some (.int (nI (6 * c)))] [] := by
  have hL := hK.1.1
  obtain ⟨m, S, x, hm, hS, hx, h9, h22⟩ := hV
  refine r_aload_n 1045 dL_law_1044 rfl rfl lo1 ?_
  refine r_aload_n 1046 dL_law_1045 rfl rfl lo0 ?_
  refine r_iload_n 1047 dL_law_1046 rfl rfl lo3 ?_
  refine r_iconst 1048 dL_law_1047 rfl ic_1 ?_
  refine r_iaddN 1049 dL_law_1048 rfl ?_
  refine r_scld 1050 dL_law_1049 rfl hK.1 (6 * c + 1) rfl (by omega) ?_
  refine r_aload_n 1051 dL_law_1050 rfl rfl lo0 ?_
  refine r_iload_n 1052 dL_law_1051 rfl rfl lo3 ?_
  refine r_iconst 1053 dL_law_1052 rfl ic_2 ?_
  refine r_iaddN 1054 dL_law_1053 rfl ?_
  refine r_scld 1055 dL_law_1054 rfl hK.1 (6 * c + 2) rfl (by omega) ?_
  refine r_aload_n 1056 dL_law_1055 rfl rfl lo0 ?_
  refine r_iload_n 1057 dL_law_1056 rfl rfl lo3 ?_
  refine r_iconst 1058 dL_law_1057 rfl ic_3 ?_
  refine r_iaddN 1059 dL_law_1058 rfl ?_
  refine r_scld 1060 dL_law_1059 rfl hK.1 (6 * c + 3) rfl (by omega) ?_
  refine r_aload_n 1061 dL_law_1060 rfl rfl lo0 ?_
  refine r_iload_n 1062 dL_law_1061 rfl rfl lo3 ?_
  refine r_iconst 1063 dL_law_1062 rfl ic_4 ?_
  refine r_iaddN 1064 dL_law_1063 rfl ?_
  refine r_scld 1065 dL_law_1064 rfl hK.1 (6 * c + 4) rfl (by omega) ?_
  refine r_callV (As := [.int (f (6 * c + 1)), .int (f (6 * c + 2)), .int (f (6 * c + 3)), .int (f (6 * c + 4))]) (st := []) rfl 1068 dL_law_1065 rfl sV_L_99_0 hx.t (ckL (by decide) (by decide) (by decide) (by decide) (by omega) (by omega) (Nat.le_of_ble_eq_true rfl)) rfl (ev_X0_book hx h22 hK.2.1 hK.2.2.1) (fun v A1 hQ => ?_)
  obtain ⟨rfl, x1, hx1, hF1⟩ := hQ
  have hm1 := hm.fx hF1
  refine r_aload_n 1069 dL_law_1068 rfl rfl lo2 ?_
  refine r_aload_n 1070 dL_law_1069 rfl rfl lo0 ?_
  refine r_iload_n 1071 dL_law_1070 rfl rfl lo3 ?_
  refine r_iconst 1072 dL_law_1071 rfl ic_1 ?_
  refine r_iaddN 1073 dL_law_1072 rfl ?_
  refine r_scld 1074 dL_law_1073 rfl hK.1 (6 * c + 1) rfl (by omega) ?_
  refine r_aload_n 1075 dL_law_1074 rfl rfl lo0 ?_
  refine r_iload_n 1076 dL_law_1075 rfl rfl lo3 ?_
  refine r_iconst 1077 dL_law_1076 rfl ic_2 ?_
  refine r_iaddN 1078 dL_law_1077 rfl ?_
  refine r_scld 1079 dL_law_1078 rfl hK.1 (6 * c + 2) rfl (by omega) ?_
  refine r_aload_n 1080 dL_law_1079 rfl rfl lo0 ?_
  refine r_iload_n 1081 dL_law_1080 rfl rfl lo3 ?_
  refine r_iconst 1082 dL_law_1081 rfl ic_3 ?_
  refine r_iaddN 1083 dL_law_1082 rfl ?_
  refine r_scld 1084 dL_law_1083 rfl hK.1 (6 * c + 3) rfl (by omega) ?_
  refine r_aload_n 1085 dL_law_1084 rfl rfl lo0 ?_
  refine r_iload_n 1086 dL_law_1085 rfl rfl lo3 ?_
  refine r_iconst 1087 dL_law_1086 rfl ic_4 ?_
  refine r_iaddN 1088 dL_law_1087 rfl ?_
  refine r_scld 1089 dL_law_1088 rfl hK.1 (6 * c + 4) rfl (by omega) ?_
  refine r_callV (As := [.int (f (6 * c + 1)), .int (f (6 * c + 2)), .int (f (6 * c + 3)), .int (f (6 * c + 4))]) rfl 1092 dL_law_1089 rfl sV_L_102_1 hm1.t (ckL (by decide) (by decide) (by decide) (by decide) (by omega) (by omega) (Nat.le_of_ble_eq_true rfl)) rfl (ev_X1_book hm1 hS) (fun v A2 hQ => ?_)
  obtain ⟨m2, ⟨rfl, hS2⟩, hm2, hF2⟩ := hQ
  refine r_icmp_eq 1441 1095 dL_law_1092 rfl (by decide) (fun _ => ?_) (fun h => absurd (rfl) h)
  refine r_wide (44 + 20 * (c + 1)) (42481 + 2000 * (c + 1)) (by omega) (by omega) ?_
  exact K A2 ⟨_, _, _, hm2, hS2, hx1.fm hF2, s9_book h9, by rw [hF2.1]; exact Nat.lt_of_lt_of_le h22 hF1.1⟩

set_option maxHeartbeats 4000000 in
theorem lwc_20 {w : WE} {A : Hp} {L c : Nat} {f : Nat → Int32} (hK : LK w L f) (hc : 6 * c + 6 ≤ L) (hV : LV w A) (K : ∀ A' : Hp, LV w A' → Rn w mLw room_1 (ZL w) (44 + 20 * (c + 1)) (42481 + 2000 * (c + 1)) A' 1441 [some (.ref (w.2.2.2.2 0)), some (.ref (wb w)), some (.ref (mb w)), some (.int (nI (6 * c)))] []) : Rn w mLw room_1 (ZL w) (44 + 20 * c) (42481 + 2000 * c) A 1097 [some (.ref (w.2.2.2.2 0)), some (.ref (wb w)), some (.ref (mb w)), some (.int (nI (6 * c)))] [] := by
  have hL := hK.1.1
  obtain ⟨m, S, x, hm, hS, hx, h9, h22⟩ := hV
  refine r_aload_n 1098 dL_law_1097 rfl rfl lo1 ?_
  refine r_aload_n 1099 dL_law_1098 rfl rfl lo0 ?_
  refine r_iload_n 1100 dL_law_1099 rfl rfl lo3 ?_
  refine r_iconst 1101 dL_law_1100 rfl ic_1 ?_
  refine r_iaddN 1102 dL_law_1101 rfl ?_
  refine r_scld 1103 dL_law_1102 rfl hK.1 (6 * c + 1) rfl (by omega) ?_
  refine r_aload_n 1104 dL_law_1103 rfl rfl lo0 ?_
  refine r_iload_n 1105 dL_law_1104 rfl rfl lo3 ?_
  refine r_iconst 1106 dL_law_1105 rfl ic_2 ?_
  refine r_iaddN 1107 dL_law_1106 rfl ?_
  refine r_scld 1108 dL_law_1107 rfl hK.1 (6 * c + 2) rfl (by omega) ?_
  refine r_aload_n 1109 dL_law_1108 rfl rfl lo0 ?_
  refine r_iload_n 1110 dL_law_1109 rfl rfl lo3 ?_
  refine r_iconst 1111 dL_law_1110 rfl ic_3 ?_
  refine r_iaddN 1112 dL_law_1111 rfl ?_
  refine r_scld 1113 dL_law_1112 rfl hK.1 (6 * c + 3) rfl (by omega) ?_
  refine r_yV (As := [.int (f (6 * c + 1)), .int (f (6 * c + 2)), .int (f (6 * c + 3))]) (st := []) rfl 1116 dL_law_1113 rfl sYV_sheet hx.t (ckL (by decide) (by decide) (by decide) (by decide) (by omega) (by omega) (Nat.le_of_ble_eq_true rfl)) rfl (ev_X0_sheet hx h22 hK.2.2.1) (fun v A1 hQ => ?_) (fun _ _ h => h.elim)
  obtain ⟨rfl, x1, hx1, hF1⟩ := hQ
  have hm1 := hm.fx hF1
  refine r_aload_n 1117 dL_law_1116 rfl rfl lo2 ?_
  refine r_aload_n 1118 dL_law_1117 rfl rfl lo0 ?_
  refine r_iload_n 1119 dL_law_1118 rfl rfl lo3 ?_
  refine r_iconst 1120 dL_law_1119 rfl ic_1 ?_
  refine r_iaddN 1121 dL_law_1120 rfl ?_
  refine r_scld 1122 dL_law_1121 rfl hK.1 (6 * c + 1) rfl (by omega) ?_
  refine r_aload_n 1123 dL_law_1122 rfl rfl lo0 ?_
  refine r_iload_n 1124 dL_law_1123 rfl rfl lo3 ?_
  refine r_iconst 1125 dL_law_1124 rfl ic_2 ?_
  refine r_iaddN 1126 dL_law_1125 rfl ?_
  refine r_scld 1127 dL_law_1126 rfl hK.1 (6 * c + 2) rfl (by omega) ?_
  refine r_aload_n 1128 dL_law_1127 rfl rfl lo0 ?_
  refine r_iload_n 1129 dL_law_1128 rfl rfl lo3 ?_
  refine r_iconst 1130 dL_law_1129 rfl ic_3 ?_
  refine r_iaddN 1131 dL_law_1130 rfl ?_
  refine r_scld 1132 dL_law_1131 rfl hK.1 (6 * c + 3) rfl (by omega) ?_
  refine r_callV (As := [.int (f (6 * c + 1)), .int (f (6 * c + 2)), .int (f (6 * c + 3))]) rfl 1135 dL_law_1132 rfl sV_L_106_1 hm1.t (ckL (by decide) (by decide) (by decide) (by decide) (by omega) (by omega) (Nat.le_of_ble_eq_true rfl)) rfl (ev_X1_sheet hm1 hS) (fun v A2 hQ => ?_)
  obtain ⟨m2, ⟨rfl, hS2⟩, hm2, hF2⟩ := hQ
  refine r_icmp_eq 1441 1138 dL_law_1135 rfl (by decide) (fun _ => ?_) (fun h => absurd (rfl) h)
  refine r_wide (44 + 20 * (c + 1)) (42481 + 2000 * (c + 1)) (by omega) (by omega) ?_
  exact K A2 ⟨_, _, _, hm2, hS2, hx1.fm hF2, s9_sheet h9, by rw [hF2.1]; exact Nat.lt_of_lt_of_le h22 hF1.1⟩

set_option maxHeartbeats 4000000 in
theorem lwc_21 {w : WE} {A : Hp} {L c : Nat} {f : Nat → Int32} (hK : LK w L f) (hc : 6 * c + 6 ≤ L) (hV : LV w A) (K : ∀ A' : Hp, LV w A' → Rn w mLw room_1 (ZL w) (44 + 20 * (c + 1)) (42481 + 2000 * (c + 1)) A' 1441 [some (.ref (w.2.2.2.2 0)), some (.ref (wb w)), some (.ref (mb w)), some (.int (nI (6 * c)))] []) : Rn w mLw room_1 (ZL w) (44 + 20 * c) (42481 + 2000 * c) A 1140 [some (.ref (w.2.2.2.2 0)), some (.ref (wb w)), some (.ref (mb w)), some (.int (nI (6 * c)))] [] := by
  have hL := hK.1.1
  obtain ⟨m, S, x, hm, hS, hx, h9, h22⟩ := hV
  refine r_aload_n 1141 dL_law_1140 rfl rfl lo1 ?_
  refine r_aload_n 1142 dL_law_1141 rfl rfl lo0 ?_
  refine r_iload_n 1143 dL_law_1142 rfl rfl lo3 ?_
  refine r_iconst 1144 dL_law_1143 rfl ic_1 ?_
  refine r_iaddN 1145 dL_law_1144 rfl ?_
  refine r_scld 1146 dL_law_1145 rfl hK.1 (6 * c + 1) rfl (by omega) ?_
  refine r_callV (As := [.int (f (6 * c + 1))]) (st := []) rfl 1149 dL_law_1146 rfl sV_L_107_0 hx.t (ckL (by decide) (by decide) (by decide) (by decide) (by omega) (by omega) (Nat.le_of_ble_eq_true rfl)) rfl (ev_X0_lose hx) (fun v A1 hQ => ?_)
  obtain ⟨rfl, x1, hx1, hF1⟩ := hQ
  have hm1 := hm.fx hF1
  refine r_aload_n 1150 dL_law_1149 rfl rfl lo2 ?_
  refine r_aload_n 1151 dL_law_1150 rfl rfl lo0 ?_
  refine r_iload_n 1152 dL_law_1151 rfl rfl lo3 ?_
  refine r_iconst 1153 dL_law_1152 rfl ic_1 ?_
  refine r_iaddN 1154 dL_law_1153 rfl ?_
  refine r_scld 1155 dL_law_1154 rfl hK.1 (6 * c + 1) rfl (by omega) ?_
  refine r_callV (As := [.int (f (6 * c + 1))]) rfl 1158 dL_law_1155 rfl sV_L_110_1 hm1.t (ckL (by decide) (by decide) (by decide) (by decide) (by omega) (by omega) (Nat.le_of_ble_eq_true rfl)) rfl (ev_X1_lose hm1 hS) (fun v A2 hQ => ?_)
  obtain ⟨m2, ⟨rfl, hS2⟩, hm2, hF2⟩ := hQ
  refine r_icmp_eq 1441 1161 dL_law_1158 rfl (by decide) (fun _ => ?_) (fun h => absurd (rfl) h)
  refine r_wide (44 + 20 * (c + 1)) (42481 + 2000 * (c + 1)) (by omega) (by omega) ?_
  exact K A2 ⟨_, _, _, hm2, hS2, hx1.fm hF2, s9_lose h9, by rw [hF2.1]; exact Nat.lt_of_lt_of_le h22 hF1.1⟩

set_option maxHeartbeats 4000000 in
theorem lwc_22 {w : WE} {A : Hp} {L c : Nat} {f : Nat → Int32} (hK : LK w L f) (hc : 6 * c + 6 ≤ L) (hV : LV w A) (K : ∀ A' : Hp, LV w A' → Rn w mLw room_1 (ZL w) (44 + 20 * (c + 1)) (42481 + 2000 * (c + 1)) A' 1441 [some (.ref (w.2.2.2.2 0)), some (.ref (wb w)), some (.ref (mb w)), some (.int (nI (6 * c)))] []) : Rn w mLw room_1 (ZL w) (44 + 20 * c) (42481 + 2000 * c) A 1163 [some (.ref (w.2.2.2.2 0)), some (.ref (wb w)), some (.ref (mb w)), some (.int (nI (6 * c)))] [] := by
  have hL := hK.1.1
  obtain ⟨m, S, x, hm, hS, hx, h9, h22⟩ := hV
  refine r_aload_n 1164 dL_law_1163 rfl rfl lo1 ?_
  refine r_aload_n 1165 dL_law_1164 rfl rfl lo0 ?_
  refine r_iload_n 1166 dL_law_1165 rfl rfl lo3 ?_
  refine r_iconst 1167 dL_law_1166 rfl ic_1 ?_
  refine r_iaddN 1168 dL_law_1167 rfl ?_
  refine r_scld 1169 dL_law_1168 rfl hK.1 (6 * c + 1) rfl (by omega) ?_
  refine r_aload_n 1170 dL_law_1169 rfl rfl lo0 ?_
  refine r_iload_n 1171 dL_law_1170 rfl rfl lo3 ?_
  refine r_iconst 1172 dL_law_1171 rfl ic_2 ?_
  refine r_iaddN 1173 dL_law_1172 rfl ?_
  refine r_scld 1174 dL_law_1173 rfl hK.1 (6 * c + 2) rfl (by omega) ?_
  refine r_aload_n 1175 dL_law_1174 rfl rfl lo0 ?_
  refine r_iload_n 1176 dL_law_1175 rfl rfl lo3 ?_
  refine r_iconst 1177 dL_law_1176 rfl ic_3 ?_
  refine r_iaddN 1178 dL_law_1177 rfl ?_
  refine r_scld 1179 dL_law_1178 rfl hK.1 (6 * c + 3) rfl (by omega) ?_
  refine r_yV (As := [.int (f (6 * c + 1)), .int (f (6 * c + 2)), .int (f (6 * c + 3))]) (st := []) rfl 1182 dL_law_1179 rfl sYV_put hx.t (ckL (by decide) (by decide) (by decide) (by decide) (by omega) (by omega) (Nat.le_of_ble_eq_true rfl)) rfl (ev_X0_put hx hK.2.2.1) (fun v A1 hQ => ?_) (fun _ _ h => h.elim)
  obtain ⟨rfl, x1, hx1, hF1⟩ := hQ
  have hm1 := hm.fx hF1
  refine r_aload_n 1183 dL_law_1182 rfl rfl lo2 ?_
  refine r_aload_n 1184 dL_law_1183 rfl rfl lo0 ?_
  refine r_iload_n 1185 dL_law_1184 rfl rfl lo3 ?_
  refine r_iconst 1186 dL_law_1185 rfl ic_1 ?_
  refine r_iaddN 1187 dL_law_1186 rfl ?_
  refine r_scld 1188 dL_law_1187 rfl hK.1 (6 * c + 1) rfl (by omega) ?_
  refine r_aload_n 1189 dL_law_1188 rfl rfl lo0 ?_
  refine r_iload_n 1190 dL_law_1189 rfl rfl lo3 ?_
  refine r_iconst 1191 dL_law_1190 rfl ic_2 ?_
  refine r_iaddN 1192 dL_law_1191 rfl ?_
  refine r_scld 1193 dL_law_1192 rfl hK.1 (6 * c + 2) rfl (by omega) ?_
  refine r_aload_n 1194 dL_law_1193 rfl rfl lo0 ?_
  refine r_iload_n 1195 dL_law_1194 rfl rfl lo3 ?_
  refine r_iconst 1196 dL_law_1195 rfl ic_3 ?_
  refine r_iaddN 1197 dL_law_1196 rfl ?_
  refine r_scld 1198 dL_law_1197 rfl hK.1 (6 * c + 3) rfl (by omega) ?_
  refine r_callV (As := [.int (f (6 * c + 1)), .int (f (6 * c + 2)), .int (f (6 * c + 3))]) rfl 1201 dL_law_1198 rfl sV_L_114_1 hm1.t (ckL (by decide) (by decide) (by decide) (by decide) (by omega) (by omega) (Nat.le_of_ble_eq_true rfl)) rfl (ev_X1_put hm1 hS) (fun v A2 hQ => ?_)
  obtain ⟨m2, ⟨rfl, hS2⟩, hm2, hF2⟩ := hQ
  refine r_icmp_eq 1441 1204 dL_law_1201 rfl (by decide) (fun _ => ?_) (fun h => absurd (rfl) h)
  refine r_wide (44 + 20 * (c + 1)) (42481 + 2000 * (c + 1)) (by omega) (by omega) ?_
  exact K A2 ⟨_, _, _, hm2, hS2, hx1.fm hF2, s9_put h9, by rw [hF2.1]; exact Nat.lt_of_lt_of_le h22 hF1.1⟩

set_option maxHeartbeats 4000000 in
theorem lwc_23 {w : WE} {A : Hp} {L c : Nat} {f : Nat → Int32} (hK : LK w L f) (hc : 6 * c + 6 ≤ L) (hV : LV w A) (K : ∀ A' : Hp, LV w A' → Rn w mLw room_1 (ZL w) (44 + 20 * (c + 1)) (42481 + 2000 * (c + 1)) A' 1441 [some (.ref (w.2.2.2.2 0)), some (.ref (wb w)), some (.ref (mb w)), some (.int (nI (6 * c)))] []) : Rn w mLw room_1 (ZL w) (44 + 20 * c) (42481 + 2000 * c) A 1206 [some (.ref (w.2.2.2.2 0)), some (.ref (wb w)), some (.ref (mb w)), some (.int (nI (6 * c)))] [] := by
  have hL := hK.1.1
  obtain ⟨m, S, x, hm, hS, hx, h9, h22⟩ := hV
  refine r_aload_n 1207 dL_law_1206 rfl rfl lo1 ?_
  refine r_aload_n 1208 dL_law_1207 rfl rfl lo0 ?_
  refine r_iload_n 1209 dL_law_1208 rfl rfl lo3 ?_
  refine r_iconst 1210 dL_law_1209 rfl ic_1 ?_
  refine r_iaddN 1211 dL_law_1210 rfl ?_
  refine r_scld 1212 dL_law_1211 rfl hK.1 (6 * c + 1) rfl (by omega) ?_
  refine r_aload_n 1213 dL_law_1212 rfl rfl lo0 ?_
  refine r_iload_n 1214 dL_law_1213 rfl rfl lo3 ?_
  refine r_iconst 1215 dL_law_1214 rfl ic_2 ?_
  refine r_iaddN 1216 dL_law_1215 rfl ?_
  refine r_scld 1217 dL_law_1216 rfl hK.1 (6 * c + 2) rfl (by omega) ?_
  refine r_aload_n 1218 dL_law_1217 rfl rfl lo0 ?_
  refine r_iload_n 1219 dL_law_1218 rfl rfl lo3 ?_
  refine r_iconst 1220 dL_law_1219 rfl ic_3 ?_
  refine r_iaddN 1221 dL_law_1220 rfl ?_
  refine r_scld 1222 dL_law_1221 rfl hK.1 (6 * c + 3) rfl (by omega) ?_
  refine r_yV (As := [.int (f (6 * c + 1)), .int (f (6 * c + 2)), .int (f (6 * c + 3))]) (st := []) rfl 1225 dL_law_1222 rfl sYV_cell hx.t (ckL (by decide) (by decide) (by decide) (by decide) (by omega) (by omega) (Nat.le_of_ble_eq_true rfl)) rfl (ev_X0_cell hx hK.2.1 hK.2.2.1) (fun v A1 hQ => ?_) (fun _ _ h => h.elim)
  obtain ⟨rfl, x1, hx1, hF1⟩ := hQ
  have hm1 := hm.fx hF1
  refine r_aload_n 1226 dL_law_1225 rfl rfl lo2 ?_
  refine r_aload_n 1227 dL_law_1226 rfl rfl lo0 ?_
  refine r_iload_n 1228 dL_law_1227 rfl rfl lo3 ?_
  refine r_iconst 1229 dL_law_1228 rfl ic_1 ?_
  refine r_iaddN 1230 dL_law_1229 rfl ?_
  refine r_scld 1231 dL_law_1230 rfl hK.1 (6 * c + 1) rfl (by omega) ?_
  refine r_aload_n 1232 dL_law_1231 rfl rfl lo0 ?_
  refine r_iload_n 1233 dL_law_1232 rfl rfl lo3 ?_
  refine r_iconst 1234 dL_law_1233 rfl ic_2 ?_
  refine r_iaddN 1235 dL_law_1234 rfl ?_
  refine r_scld 1236 dL_law_1235 rfl hK.1 (6 * c + 2) rfl (by omega) ?_
  refine r_aload_n 1237 dL_law_1236 rfl rfl lo0 ?_
  refine r_iload_n 1238 dL_law_1237 rfl rfl lo3 ?_
  refine r_iconst 1239 dL_law_1238 rfl ic_3 ?_
  refine r_iaddN 1240 dL_law_1239 rfl ?_
  refine r_scld 1241 dL_law_1240 rfl hK.1 (6 * c + 3) rfl (by omega) ?_
  refine r_callV (As := [.int (f (6 * c + 1)), .int (f (6 * c + 2)), .int (f (6 * c + 3))]) rfl 1244 dL_law_1241 rfl sV_L_119_1 hm1.t (ckL (by decide) (by decide) (by decide) (by decide) (by omega) (by omega) (Nat.le_of_ble_eq_true rfl)) rfl (ev_X1_cell hm1 hS) (fun v A2 hQ => ?_)
  obtain ⟨m2, ⟨rfl, hS2⟩, hm2, hF2⟩ := hQ
  refine r_lcmp 1245 dL_law_1244 rfl ?_
  refine r_if_eq 1441 1248 dL_law_1245 rfl (by decide) (fun _ => ?_) (fun h => absurd (lg_self _) h)
  refine r_wide (44 + 20 * (c + 1)) (42481 + 2000 * (c + 1)) (by omega) (by omega) ?_
  exact K A2 ⟨_, _, _, hm2, hS2, hx1.fm hF2, s9_cell h9, by rw [hF2.1]; exact Nat.lt_of_lt_of_le h22 hF1.1⟩

set_option maxHeartbeats 4000000 in
theorem lwc_24 {w : WE} {A : Hp} {L c : Nat} {f : Nat → Int32} (hK : LK w L f) (hc : 6 * c + 6 ≤ L) (hV : LV w A) (hC : ∀ (A : Hp) (x : XT) (S : ST) (k i q j n : Int32), XS w A x S → S9 S → mb w + 22 < A.2 → EvP w mX0_copy 13 9 1200 [.ref (wb w), .int k, .int i, .int q, .int j, .int n] A (some (.int (sp_copy S k i q j n).1)) (fun A' => ∃ x' : XT, XS w A' x' (sp_copy S k i q j n).2 ∧ Fx w A A')) (K : ∀ A' : Hp, LV w A' → Rn w mLw room_1 (ZL w) (44 + 20 * (c + 1)) (42481 + 2000 * (c + 1)) A' 1441 [some (.ref (w.2.2.2.2 0)), some (.ref (wb w)), some (.ref (mb w)), some (.int (nI (6 * c)))] []) : Rn w mLw room_1 (ZL w) (44 + 20 * c) (42481 + 2000 * c) A 1250 [some (.ref (w.2.2.2.2 0)), some (.ref (wb w)), some (.ref (mb w)), some (.int (nI (6 * c)))] [] := by
  have hL := hK.1.1
  obtain ⟨m, S, x, hm, hS, hx, h9, h22⟩ := hV
  refine r_aload_n 1251 dL_law_1250 rfl rfl lo1 ?_
  refine r_aload_n 1252 dL_law_1251 rfl rfl lo0 ?_
  refine r_iload_n 1253 dL_law_1252 rfl rfl lo3 ?_
  refine r_iconst 1254 dL_law_1253 rfl ic_1 ?_
  refine r_iaddN 1255 dL_law_1254 rfl ?_
  refine r_scld 1256 dL_law_1255 rfl hK.1 (6 * c + 1) rfl (by omega) ?_
  refine r_aload_n 1257 dL_law_1256 rfl rfl lo0 ?_
  refine r_iload_n 1258 dL_law_1257 rfl rfl lo3 ?_
  refine r_iconst 1259 dL_law_1258 rfl ic_2 ?_
  refine r_iaddN 1260 dL_law_1259 rfl ?_
  refine r_scld 1261 dL_law_1260 rfl hK.1 (6 * c + 2) rfl (by omega) ?_
  refine r_aload_n 1262 dL_law_1261 rfl rfl lo0 ?_
  refine r_iload_n 1263 dL_law_1262 rfl rfl lo3 ?_
  refine r_iconst 1264 dL_law_1263 rfl ic_3 ?_
  refine r_iaddN 1265 dL_law_1264 rfl ?_
  refine r_scld 1266 dL_law_1265 rfl hK.1 (6 * c + 3) rfl (by omega) ?_
  refine r_aload_n 1267 dL_law_1266 rfl rfl lo0 ?_
  refine r_iload_n 1268 dL_law_1267 rfl rfl lo3 ?_
  refine r_iconst 1269 dL_law_1268 rfl ic_4 ?_
  refine r_iaddN 1270 dL_law_1269 rfl ?_
  refine r_scld 1271 dL_law_1270 rfl hK.1 (6 * c + 4) rfl (by omega) ?_
  refine r_aload_n 1272 dL_law_1271 rfl rfl lo0 ?_
  refine r_iload_n 1273 dL_law_1272 rfl rfl lo3 ?_
  refine r_iconst 1274 dL_law_1273 rfl ic_5 ?_
  refine r_iaddN 1275 dL_law_1274 rfl ?_
  refine r_scld 1276 dL_law_1275 rfl hK.1 (6 * c + 5) rfl (by omega) ?_
  refine r_callV (As := [.int (f (6 * c + 1)), .int (f (6 * c + 2)), .int (f (6 * c + 3)), .int (f (6 * c + 4)), .int (f (6 * c + 5))]) (st := []) rfl 1279 dL_law_1276 rfl sV_L_120_0 hx.t (ckL (by decide) (by decide) (by decide) (by decide) (by omega) (by omega) (Nat.le_of_ble_eq_true rfl)) rfl (hC A x S _ _ _ _ _ hx h9 h22) (fun v A1 hQ => ?_)
  obtain ⟨rfl, x1, hx1, hF1⟩ := hQ
  have hm1 := hm.fx hF1
  refine r_aload_n 1280 dL_law_1279 rfl rfl lo2 ?_
  refine r_aload_n 1281 dL_law_1280 rfl rfl lo0 ?_
  refine r_iload_n 1282 dL_law_1281 rfl rfl lo3 ?_
  refine r_iconst 1283 dL_law_1282 rfl ic_1 ?_
  refine r_iaddN 1284 dL_law_1283 rfl ?_
  refine r_scld 1285 dL_law_1284 rfl hK.1 (6 * c + 1) rfl (by omega) ?_
  refine r_aload_n 1286 dL_law_1285 rfl rfl lo0 ?_
  refine r_iload_n 1287 dL_law_1286 rfl rfl lo3 ?_
  refine r_iconst 1288 dL_law_1287 rfl ic_2 ?_
  refine r_iaddN 1289 dL_law_1288 rfl ?_
  refine r_scld 1290 dL_law_1289 rfl hK.1 (6 * c + 2) rfl (by omega) ?_
  refine r_aload_n 1291 dL_law_1290 rfl rfl lo0 ?_
  refine r_iload_n 1292 dL_law_1291 rfl rfl lo3 ?_
  refine r_iconst 1293 dL_law_1292 rfl ic_3 ?_
  refine r_iaddN 1294 dL_law_1293 rfl ?_
  refine r_scld 1295 dL_law_1294 rfl hK.1 (6 * c + 3) rfl (by omega) ?_
  refine r_aload_n 1296 dL_law_1295 rfl rfl lo0 ?_
  refine r_iload_n 1297 dL_law_1296 rfl rfl lo3 ?_
  refine r_iconst 1298 dL_law_1297 rfl ic_4 ?_
  refine r_iaddN 1299 dL_law_1298 rfl ?_
  refine r_scld 1300 dL_law_1299 rfl hK.1 (6 * c + 4) rfl (by omega) ?_
  refine r_aload_n 1301 dL_law_1300 rfl rfl lo0 ?_
  refine r_iload_n 1302 dL_law_1301 rfl rfl lo3 ?_
  refine r_iconst 1303 dL_law_1302 rfl ic_5 ?_
  refine r_iaddN 1304 dL_law_1303 rfl ?_
  refine r_scld 1305 dL_law_1304 rfl hK.1 (6 * c + 5) rfl (by omega) ?_
  refine r_callV (As := [.int (f (6 * c + 1)), .int (f (6 * c + 2)), .int (f (6 * c + 3)), .int (f (6 * c + 4)), .int (f (6 * c + 5))]) rfl 1308 dL_law_1305 rfl sV_L_123_1 hm1.t (ckL (by decide) (by decide) (by decide) (by decide) (by omega) (by omega) (Nat.le_of_ble_eq_true rfl)) rfl (ev_X1_copy hm1 hS) (fun v A2 hQ => ?_)
  obtain ⟨m2, ⟨rfl, hS2⟩, hm2, hF2⟩ := hQ
  refine r_icmp_eq 1441 1311 dL_law_1308 rfl (by decide) (fun _ => ?_) (fun h => absurd (rfl) h)
  refine r_wide (44 + 20 * (c + 1)) (42481 + 2000 * (c + 1)) (by omega) (by omega) ?_
  exact K A2 ⟨_, _, _, hm2, hS2, hx1.fm hF2, s9_copy h9, by rw [hF2.1]; exact Nat.lt_of_lt_of_le h22 hF1.1⟩

set_option maxHeartbeats 4000000 in
theorem lwc_25 {w : WE} {A : Hp} {L c : Nat} {f : Nat → Int32} (hK : LK w L f) (hc : 6 * c + 6 ≤ L) (hV : LV w A) (K : ∀ A' : Hp, LV w A' → Rn w mLw room_1 (ZL w) (44 + 20 * (c + 1)) (42481 + 2000 * (c + 1)) A' 1441 [some (.ref (w.2.2.2.2 0)), some (.ref (wb w)), some (.ref (mb w)), some (.int (nI (6 * c)))] []) : Rn w mLw room_1 (ZL w) (44 + 20 * c) (42481 + 2000 * c) A 1313 [some (.ref (w.2.2.2.2 0)), some (.ref (wb w)), some (.ref (mb w)), some (.int (nI (6 * c)))] [] := by
  have hL := hK.1.1
  obtain ⟨m, S, x, hm, hS, hx, h9, h22⟩ := hV
  refine r_aload_n 1314 dL_law_1313 rfl rfl lo1 ?_
  refine r_aload_n 1315 dL_law_1314 rfl rfl lo0 ?_
  refine r_iload_n 1316 dL_law_1315 rfl rfl lo3 ?_
  refine r_iconst 1317 dL_law_1316 rfl ic_1 ?_
  refine r_iaddN 1318 dL_law_1317 rfl ?_
  refine r_scld 1319 dL_law_1318 rfl hK.1 (6 * c + 1) rfl (by omega) ?_
  refine r_callV (As := [.int (f (6 * c + 1))]) (st := []) rfl 1322 dL_law_1319 rfl sV_L_124_0 hx.t (ckL (by decide) (by decide) (by decide) (by decide) (by omega) (by omega) (Nat.le_of_ble_eq_true rfl)) rfl (ev_X0_tell hx) (fun v A1 hQ => ?_)
  obtain ⟨rfl, x1, hx1, hF1⟩ := hQ
  have hm1 := hm.fx hF1
  refine r_aload_n 1323 dL_law_1322 rfl rfl lo2 ?_
  refine r_aload_n 1324 dL_law_1323 rfl rfl lo0 ?_
  refine r_iload_n 1325 dL_law_1324 rfl rfl lo3 ?_
  refine r_iconst 1326 dL_law_1325 rfl ic_1 ?_
  refine r_iaddN 1327 dL_law_1326 rfl ?_
  refine r_scld 1328 dL_law_1327 rfl hK.1 (6 * c + 1) rfl (by omega) ?_
  refine r_callV (As := [.int (f (6 * c + 1))]) rfl 1331 dL_law_1328 rfl sV_L_127_1 hm1.t (ckL (by decide) (by decide) (by decide) (by decide) (by omega) (by omega) (Nat.le_of_ble_eq_true rfl)) rfl (ev_X1_tell hm1 hS) (fun v A2 hQ => ?_)
  obtain ⟨m2, ⟨rfl, hS2⟩, hm2, hF2⟩ := hQ
  refine r_icmp_eq 1441 1334 dL_law_1331 rfl (by decide) (fun _ => ?_) (fun h => absurd (rfl) h)
  refine r_wide (44 + 20 * (c + 1)) (42481 + 2000 * (c + 1)) (by omega) (by omega) ?_
  exact K A2 ⟨_, _, _, hm2, hS2, hx1.fm hF2, s9_tell h9, by rw [hF2.1]; exact Nat.lt_of_lt_of_le h22 hF1.1⟩

set_option maxHeartbeats 4000000 in
theorem lwc_26 {w : WE} {A : Hp} {L c : Nat} {f : Nat → Int32} (hK : LK w L f) (hc : 6 * c + 6 ≤ L) (hV : LV w A) (K : ∀ A' : Hp, LV w A' → Rn w mLw room_1 (ZL w) (44 + 20 * (c + 1)) (42481 + 2000 * (c + 1)) A' 1441 [some (.ref (w.2.2.2.2 0)), some (.ref (wb w)), some (.ref (mb w)), some (.int (nI (6 * c)))] []) : Rn w mLw room_1 (ZL w) (44 + 20 * c) (42481 + 2000 * c) A 1336 [some (.ref (w.2.2.2.2 0)), some (.ref (wb w)), some (.ref (mb w)), some (.int (nI (6 * c)))] [] := by
  have hL := hK.1.1
  obtain ⟨m, S, x, hm, hS, hx, h9, h22⟩ := hV
  refine r_aload_n 1337 dL_law_1336 rfl rfl lo1 ?_
  refine r_aload_n 1338 dL_law_1337 rfl rfl lo0 ?_
  refine r_iload_n 1339 dL_law_1338 rfl rfl lo3 ?_
  refine r_iconst 1340 dL_law_1339 rfl ic_1 ?_
  refine r_iaddN 1341 dL_law_1340 rfl ?_
  refine r_scld 1342 dL_law_1341 rfl hK.1 (6 * c + 1) rfl (by omega) ?_
  refine r_callV (As := [.int (f (6 * c + 1))]) (st := []) rfl 1345 dL_law_1342 rfl sV_L_128_0 hx.t (ckL (by decide) (by decide) (by decide) (by decide) (by omega) (by omega) (Nat.le_of_ble_eq_true rfl)) rfl (ev_X0_stake hx) (fun v A1 hQ => ?_)
  obtain ⟨rfl, x1, hx1, hF1⟩ := hQ
  have hm1 := hm.fx hF1
  refine r_aload_n 1346 dL_law_1345 rfl rfl lo2 ?_
  refine r_aload_n 1347 dL_law_1346 rfl rfl lo0 ?_
  refine r_iload_n 1348 dL_law_1347 rfl rfl lo3 ?_
  refine r_iconst 1349 dL_law_1348 rfl ic_1 ?_
  refine r_iaddN 1350 dL_law_1349 rfl ?_
  refine r_scld 1351 dL_law_1350 rfl hK.1 (6 * c + 1) rfl (by omega) ?_
  refine r_callV (As := [.int (f (6 * c + 1))]) rfl 1354 dL_law_1351 rfl sV_L_131_1 hm1.t (ckL (by decide) (by decide) (by decide) (by decide) (by omega) (by omega) (Nat.le_of_ble_eq_true rfl)) rfl (ev_X1_stake hm1 hS) (fun v A2 hQ => ?_)
  obtain ⟨m2, ⟨rfl, hS2⟩, hm2, hF2⟩ := hQ
  refine r_icmp_eq 1441 1357 dL_law_1354 rfl (by decide) (fun _ => ?_) (fun h => absurd (rfl) h)
  refine r_wide (44 + 20 * (c + 1)) (42481 + 2000 * (c + 1)) (by omega) (by omega) ?_
  exact K A2 ⟨_, _, _, hm2, hS2, hx1.fm hF2, s9_stake h9, by rw [hF2.1]; exact Nat.lt_of_lt_of_le h22 hF1.1⟩

set_option maxHeartbeats 4000000 in
theorem lwc_27 {w : WE} {A : Hp} {L c : Nat} {f : Nat → Int32} (hK : LK w L f) (hc : 6 * c + 6 ≤ L) (hV : LV w A) (K : ∀ A' : Hp, LV w A' → Rn w mLw room_1 (ZL w) (44 + 20 * (c + 1)) (42481 + 2000 * (c + 1)) A' 1441 [some (.ref (w.2.2.2.2 0)), some (.ref (wb w)), some (.ref (mb w)), some (.int (nI (6 * c)))] []) : Rn w mLw room_1 (ZL w) (44 + 20 * c) (42481 + 2000 * c) A 1359 [some (.ref (w.2.2.2.2 0)), some (.ref (wb w)), some (.ref (mb w)), some (.int (nI (6 * c)))] [] := by
  have hL := hK.1.1
  obtain ⟨m, S, x, hm, hS, hx, h9, h22⟩ := hV
  refine r_aload_n 1360 dL_law_1359 rfl rfl lo1 ?_
  refine r_aload_n 1361 dL_law_1360 rfl rfl lo0 ?_
  refine r_iload_n 1362 dL_law_1361 rfl rfl lo3 ?_
  refine r_iconst 1363 dL_law_1362 rfl ic_1 ?_
  refine r_iaddN 1364 dL_law_1363 rfl ?_
  refine r_scld 1365 dL_law_1364 rfl hK.1 (6 * c + 1) rfl (by omega) ?_
  refine r_aload_n 1366 dL_law_1365 rfl rfl lo0 ?_
  refine r_iload_n 1367 dL_law_1366 rfl rfl lo3 ?_
  refine r_iconst 1368 dL_law_1367 rfl ic_2 ?_
  refine r_iaddN 1369 dL_law_1368 rfl ?_
  refine r_scld 1370 dL_law_1369 rfl hK.1 (6 * c + 2) rfl (by omega) ?_
  refine r_callV (As := [.int (f (6 * c + 1)), .int (f (6 * c + 2))]) (st := []) rfl 1373 dL_law_1370 rfl sV_L_132_0 hx.t (ckL (by decide) (by decide) (by decide) (by decide) (by omega) (by omega) (Nat.le_of_ble_eq_true rfl)) rfl (ev_X0_as hx h22 hK.2.1 hK.2.2.1) (fun v A1 hQ => ?_)
  obtain ⟨rfl, x1, hx1, hF1⟩ := hQ
  have hm1 := hm.fx hF1
  refine r_aload_n 1374 dL_law_1373 rfl rfl lo2 ?_
  refine r_aload_n 1375 dL_law_1374 rfl rfl lo0 ?_
  refine r_iload_n 1376 dL_law_1375 rfl rfl lo3 ?_
  refine r_iconst 1377 dL_law_1376 rfl ic_1 ?_
  refine r_iaddN 1378 dL_law_1377 rfl ?_
  refine r_scld 1379 dL_law_1378 rfl hK.1 (6 * c + 1) rfl (by omega) ?_
  refine r_aload_n 1380 dL_law_1379 rfl rfl lo0 ?_
  refine r_iload_n 1381 dL_law_1380 rfl rfl lo3 ?_
  refine r_iconst 1382 dL_law_1381 rfl ic_2 ?_
  refine r_iaddN 1383 dL_law_1382 rfl ?_
  refine r_scld 1384 dL_law_1383 rfl hK.1 (6 * c + 2) rfl (by omega) ?_
  refine r_callV (As := [.int (f (6 * c + 1)), .int (f (6 * c + 2))]) rfl 1387 dL_law_1384 rfl sV_L_135_1 hm1.t (ckL (by decide) (by decide) (by decide) (by decide) (by omega) (by omega) (Nat.le_of_ble_eq_true rfl)) rfl (ev_X1_as hm1 hS) (fun v A2 hQ => ?_)
  obtain ⟨m2, ⟨rfl, hS2⟩, hm2, hF2⟩ := hQ
  refine r_icmp_eq 1441 1390 dL_law_1387 rfl (by decide) (fun _ => ?_) (fun h => absurd (rfl) h)
  refine r_wide (44 + 20 * (c + 1)) (42481 + 2000 * (c + 1)) (by omega) (by omega) ?_
  exact K A2 ⟨_, _, _, hm2, hS2, hx1.fm hF2, s9_as h9, by rw [hF2.1]; exact Nat.lt_of_lt_of_le h22 hF1.1⟩

set_option maxHeartbeats 4000000 in
theorem lwc_28 {w : WE} {A : Hp} {L c : Nat} {f : Nat → Int32} (hK : LK w L f) (hc : 6 * c + 6 ≤ L) (hV : LV w A) (K : ∀ A' : Hp, LV w A' → Rn w mLw room_1 (ZL w) (44 + 20 * (c + 1)) (42481 + 2000 * (c + 1)) A' 1441 [some (.ref (w.2.2.2.2 0)), some (.ref (wb w)), some (.ref (mb w)), some (.int (nI (6 * c)))] []) : Rn w mLw room_1 (ZL w) (44 + 20 * c) (42481 + 2000 * c) A 1392 [some (.ref (w.2.2.2.2 0)), some (.ref (wb w)), some (.ref (mb w)), some (.int (nI (6 * c)))] [] := by
  have hL := hK.1.1
  obtain ⟨m, S, x, hm, hS, hx, h9, h22⟩ := hV
  refine r_aload_n 1393 dL_law_1392 rfl rfl lo1 ?_
  refine r_callV (As := []) (st := []) rfl 1396 dL_law_1393 rfl sV_L_136_0 hx.t (ckL (by decide) (by decide) (by decide) (by decide) (by omega) (by omega) (Nat.le_of_ble_eq_true rfl)) rfl (ev_X0_trace hx) (fun v A1 hQ => ?_)
  obtain ⟨rfl, rfl⟩ := hQ
  have hx1 := hx
  have hF1 : Fx w A1 A1 := Fx.rf
  have hm1 := hm.fx hF1
  refine r_aload_n 1397 dL_law_1396 rfl rfl lo2 ?_
  refine r_callV (As := []) rfl 1400 dL_law_1397 rfl sV_L_139_1 hm1.t (ckL (by decide) (by decide) (by decide) (by decide) (by omega) (by omega) (Nat.le_of_ble_eq_true rfl)) rfl (ev_X1_trace hm1) (fun v A2 hQ => ?_)
  obtain ⟨rfl, rfl⟩ := hQ
  have hS2 := hS
  have hm2 := hm1
  have hF2 : Fm w A2 A2 := Fm.rf
  refine r_icmp_eq 1441 1403 dL_law_1400 rfl (by decide) (fun _ => ?_) (fun h => absurd (hS.tr.symm) h)
  refine r_wide (44 + 20 * (c + 1)) (42481 + 2000 * (c + 1)) (by omega) (by omega) ?_
  exact K A2 ⟨_, _, _, hm2, hS2, hx1.fm hF2, h9, by rw [hF2.1]; exact Nat.lt_of_lt_of_le h22 hF1.1⟩

set_option maxHeartbeats 4000000 in
theorem lwc_29 {w : WE} {A : Hp} {L c : Nat} {f : Nat → Int32} (hK : LK w L f) (hc : 6 * c + 6 ≤ L) (hV : LV w A) (K : ∀ A' : Hp, LV w A' → Rn w mLw room_1 (ZL w) (44 + 20 * (c + 1)) (42481 + 2000 * (c + 1)) A' 1441 [some (.ref (w.2.2.2.2 0)), some (.ref (wb w)), some (.ref (mb w)), some (.int (nI (6 * c)))] []) : Rn w mLw room_1 (ZL w) (44 + 20 * c) (42481 + 2000 * c) A 1405 [some (.ref (w.2.2.2.2 0)), some (.ref (wb w)), some (.ref (mb w)), some (.int (nI (6 * c)))] [] := by
  have hL := hK.1.1
  obtain ⟨m, S, x, hm, hS, hx, h9, h22⟩ := hV
  refine r_aload_n 1406 dL_law_1405 rfl rfl lo1 ?_
  refine r_callV (As := []) (st := []) rfl 1409 dL_law_1406 rfl sV_L_140_0 hx.t (ckL (by decide) (by decide) (by decide) (by decide) (by omega) (by omega) (Nat.le_of_ble_eq_true rfl)) rfl (ev_X0_fault hx) (fun v A1 hQ => ?_)
  obtain ⟨rfl, rfl⟩ := hQ
  have hx1 := hx
  have hF1 : Fx w A1 A1 := Fx.rf
  have hm1 := hm.fx hF1
  refine r_aload_n 1410 dL_law_1409 rfl rfl lo2 ?_
  refine r_callV (As := []) rfl 1413 dL_law_1410 rfl sV_L_143_1 hm1.t (ckL (by decide) (by decide) (by decide) (by decide) (by omega) (by omega) (Nat.le_of_ble_eq_true rfl)) rfl (ev_X1_fault hm1) (fun v A2 hQ => ?_)
  obtain ⟨rfl, rfl⟩ := hQ
  have hS2 := hS
  have hm2 := hm1
  have hF2 : Fm w A2 A2 := Fm.rf
  refine r_icmp_eq 1441 1416 dL_law_1413 rfl (by decide) (fun _ => ?_) (fun h => absurd (hS.fa.symm) h)
  refine r_wide (44 + 20 * (c + 1)) (42481 + 2000 * (c + 1)) (by omega) (by omega) ?_
  exact K A2 ⟨_, _, _, hm2, hS2, hx1.fm hF2, h9, by rw [hF2.1]; exact Nat.lt_of_lt_of_le h22 hF1.1⟩

set_option maxHeartbeats 4000000 in
theorem lwc_30 {w : WE} {A : Hp} {L c : Nat} {f : Nat → Int32} (hK : LK w L f) (hc : 6 * c + 6 ≤ L) (hV : LV w A) (K : ∀ A' : Hp, LV w A' → Rn w mLw room_1 (ZL w) (44 + 20 * (c + 1)) (42481 + 2000 * (c + 1)) A' 1441 [some (.ref (w.2.2.2.2 0)), some (.ref (wb w)), some (.ref (mb w)), some (.int (nI (6 * c)))] []) : Rn w mLw room_1 (ZL w) (44 + 20 * c) (42481 + 2000 * c) A 1418 [some (.ref (w.2.2.2.2 0)), some (.ref (wb w)), some (.ref (mb w)), some (.int (nI (6 * c)))] [] := by
  have hL := hK.1.1
  obtain ⟨m, S, x, hm, hS, hx, h9, h22⟩ := hV
  refine r_aload_n 1419 dL_law_1418 rfl rfl lo1 ?_
  refine r_aload_n 1420 dL_law_1419 rfl rfl lo0 ?_
  refine r_iload_n 1421 dL_law_1420 rfl rfl lo3 ?_
  refine r_iconst 1422 dL_law_1421 rfl ic_1 ?_
  refine r_iaddN 1423 dL_law_1422 rfl ?_
  refine r_scld 1424 dL_law_1423 rfl hK.1 (6 * c + 1) rfl (by omega) ?_
  refine r_callV (As := [.int (f (6 * c + 1))]) (st := []) rfl 1427 dL_law_1424 rfl sV_L_144_0 hx.t (ckL (by decide) (by decide) (by decide) (by decide) (by omega) (by omega) (Nat.le_of_ble_eq_true rfl)) rfl (ev_X0_many hx) (fun v A1 hQ => ?_)
  obtain ⟨rfl, rfl⟩ := hQ
  have hx1 := hx
  have hF1 : Fx w A1 A1 := Fx.rf
  have hm1 := hm.fx hF1
  refine r_aload_n 1428 dL_law_1427 rfl rfl lo2 ?_
  refine r_aload_n 1429 dL_law_1428 rfl rfl lo0 ?_
  refine r_iload_n 1430 dL_law_1429 rfl rfl lo3 ?_
  refine r_iconst 1431 dL_law_1430 rfl ic_1 ?_
  refine r_iaddN 1432 dL_law_1431 rfl ?_
  refine r_scld 1433 dL_law_1432 rfl hK.1 (6 * c + 1) rfl (by omega) ?_
  refine r_callV (As := [.int (f (6 * c + 1))]) rfl 1436 dL_law_1433 rfl sV_L_147_1 hm1.t (ckL (by decide) (by decide) (by decide) (by decide) (by omega) (by omega) (Nat.le_of_ble_eq_true rfl)) rfl (ev_X1_many hm1) (fun v A2 hQ => ?_)
  obtain ⟨rfl, rfl⟩ := hQ
  have hS2 := hS
  have hm2 := hm1
  have hF2 : Fm w A2 A2 := Fm.rf
  refine r_icmp_eq 1441 1439 dL_law_1436 rfl (by decide) (fun _ => ?_) (fun h => absurd (many_e hS) h)
  refine r_wide (44 + 20 * (c + 1)) (42481 + 2000 * (c + 1)) (by omega) (by omega) ?_
  exact K A2 ⟨_, _, _, hm2, hS2, hx1.fm hF2, h9, by rw [hF2.1]; exact Nat.lt_of_lt_of_le h22 hF1.1⟩

theorem sw31 (v : Int) : (v < 0 ∨ 30 < v) ∨ ∃ z : Nat, z < 31 ∧ v = (z : Int) := by
  by_cases h : 0 ≤ v ∧ v ≤ 30
  · exact Or.inr ⟨v.toNat, by omega, by omega⟩
  · exact Or.inl (by omega)
set_option maxHeartbeats 4000000 in
theorem lp_law {w : WE} {L : Nat} {f : Nat → Int32} (hK : LK w L f) (hC : ∀ (A : Hp) (x : XT) (S : ST) (k i q j n : Int32), XS w A x S → S9 S → mb w + 22 < A.2 → EvP w mX0_copy 13 9 1200 [.ref (wb w), .int k, .int i, .int q, .int j, .int n] A (some (.int (sp_copy S k i q j n).1)) (fun A' => ∃ x' : XT, XS w A' x' (sp_copy S k i q j n).2 ∧ Fx w A A')) : ∀ (j c : Nat) (A : Hp), c + j = 64 → LV w A → Rn w mLw room_1 (ZL w) (44 + 20 * c) (42481 + 2000 * c) A 18 [some (.ref (w.2.2.2.2 0)), some (.ref (wb w)), some (.ref (mb w)), some (.int (nI (6 * c)))] [] := by
  have hL := hK.1.1
  intro j
  induction j with
  | zero =>
    intro c A hcj hV
    refine r_iload_n 19 dL_law_18 rfl rfl lo3 ?_
    refine r_aload_n 20 dL_law_19 rfl rfl lo0 ?_
    refine r_slen 21 dL_law_20 rfl hK.1 ?_
    refine r_bipush 23 dL_law_21 rfl bi_6 ?_
    refine r_isub 24 dL_law_23 rfl ?_
    refine r_icmp_gt 1447 27 dL_law_24 rfl (by decide) (fun _ => ?_) (fun hc => ?_)
    · refine r_iconst 1448 dL_law_1447 rfl ic_1 ?_
      refine r_top (v' := .int 1) rfl ?_
      exact r_lend dL_law_1448 (by omega) (by omega)
    · exfalso
      refine hc (i_lt.mpr ?_)
      rw [sb_om, nI_toInt (show L < 2 ^ 31 by omega), nI_toInt (show 6 * c < 2 ^ 31 by omega), show (nI 6).toInt = 6 from by decide]
      omega
  | succ j ih =>
    intro c A hcj hV
    refine r_iload_n 19 dL_law_18 rfl rfl lo3 ?_
    refine r_aload_n 20 dL_law_19 rfl rfl lo0 ?_
    refine r_slen 21 dL_law_20 rfl hK.1 ?_
    refine r_bipush 23 dL_law_21 rfl bi_6 ?_
    refine r_isub 24 dL_law_23 rfl ?_
    refine r_icmp_gt 1447 27 dL_law_24 rfl (by decide) (fun _ => ?_) (fun hc => ?_)
    · refine r_iconst 1448 dL_law_1447 rfl ic_1 ?_
      refine r_top (v' := .int 1) rfl ?_
      exact r_lend dL_law_1448 (by omega) (by omega)
    have hc6 : 6 * c + 6 ≤ L := by
      have h1 : ¬ (nI L - nI 6).toInt < (nI (6 * c)).toInt := fun z => hc (i_lt.mpr z)
      rw [sb_om, nI_toInt (show L < 2 ^ 31 by omega), nI_toInt (show 6 * c < 2 ^ 31 by omega), show (nI 6).toInt = 6 from by decide] at h1
      omega
    have hI : ∀ A' : Hp, LV w A' → Rn w mLw room_1 (ZL w) (44 + 20 * (c + 1)) (42481 + 2000 * (c + 1)) A' 1441 [some (.ref (w.2.2.2.2 0)), some (.ref (wb w)), some (.ref (mb w)), some (.int (nI (6 * c)))] [] := fun A' hV' => by
      refine r_iinc 1444 dL_law_1441 rfl lo3 inc6 so3 rfl ?_
      refine r_goto 18 dL_law_1444 (by decide) ?_
      exact ih (c + 1) A' (by omega) hV'
    refine r_aload_n 28 dL_law_27 rfl rfl lo0 ?_
    refine r_iload_n 29 dL_law_28 rfl rfl lo3 ?_
    refine r_scld 30 dL_law_29 rfl hK.1 (6 * c) rfl (by omega) ?_
    refine r_bipush 32 dL_law_30 rfl bi_31 ?_
    refine r_iand 33 dL_law_32 rfl ?_
    rcases sw31 (f (6 * c) &&& nI 31).toInt with hout | ⟨z, hz, he⟩
    · refine r_tout 1441 dL_law_33 hout (by decide) ?_
      refine r_wide (44 + 20 * (c + 1)) (42481 + 2000 * (c + 1)) (by omega) (by omega) ?_
      exact hI A hV
    match z, hz, he with
    | 0, _, he => exact r_tin (off := 139) 0 172 dL_law_33 he (by decide) (by decide) rfl (by decide) (lwc_0 hK hc6 hV hI)
    | 1, _, he => exact r_tin (off := 192) 1 225 dL_law_33 he (by decide) (by decide) rfl (by decide) (lwc_1 hK hc6 hV hI)
    | 2, _, he => exact r_tin (off := 225) 2 258 dL_law_33 he (by decide) (by decide) rfl (by decide) (lwc_2 hK hc6 hV hI)
    | 3, _, he => exact r_tin (off := 258) 3 291 dL_law_33 he (by decide) (by decide) rfl (by decide) (lwc_3 hK hc6 hV hI)
    | 4, _, he => exact r_tin (off := 281) 4 314 dL_law_33 he (by decide) (by decide) rfl (by decide) (lwc_4 hK hc6 hV hI)
    | 5, _, he => exact r_tin (off := 294) 5 327 dL_law_33 he (by decide) (by decide) rfl (by decide) (lwc_5 hK hc6 hV hI)
    | 6, _, he => exact r_tin (off := 357) 6 390 dL_law_33 he (by decide) (by decide) rfl (by decide) (lwc_6 hK hc6 hV hI)
    | 7, _, he => exact r_tin (off := 390) 7 423 dL_law_33 he (by decide) (by decide) rfl (by decide) (lwc_7 hK hc6 hV hI)
    | 8, _, he => exact r_tin (off := 413) 8 446 dL_law_33 he (by decide) (by decide) rfl (by decide) (lwc_8 hK hc6 hV hI)
    | 9, _, he => exact r_tin (off := 446) 9 479 dL_law_33 he (by decide) (by decide) rfl (by decide) (lwc_9 hK hc6 hV hI)
    | 10, _, he => exact r_tin (off := 479) 10 512 dL_law_33 he (by decide) (by decide) rfl (by decide) (lwc_10 hK hc6 hV hI)
    | 11, _, he => exact r_tin (off := 533) 11 566 dL_law_33 he (by decide) (by decide) rfl (by decide) (lwc_11 hK hc6 hV hI)
    | 12, _, he => exact r_tin (off := 592) 12 625 dL_law_33 he (by decide) (by decide) rfl (by decide) (lwc_12 hK hc6 hV hI)
    | 13, _, he => exact r_tin (off := 661) 13 694 dL_law_33 he (by decide) (by decide) rfl (by decide) (lwc_13 hK hc6 hV hI)
    | 14, _, he => exact r_tin (off := 740) 14 773 dL_law_33 he (by decide) (by decide) rfl (by decide) (lwc_14 hK hc6 hV hI)
    | 15, _, he => exact r_tin (off := 809) 15 842 dL_law_33 he (by decide) (by decide) rfl (by decide) (lwc_15 hK hc6 hV hI)
    | 16, _, he => exact r_tin (off := 852) 16 885 dL_law_33 he (by decide) (by decide) rfl (by decide) (lwc_16 hK hc6 hV hI)
    | 17, _, he => exact r_tin (off := 895) 17 928 dL_law_33 he (by decide) (by decide) rfl (by decide) (lwc_17 hK hc6 hV hI)
    | 18, _, he => exact r_tin (off := 948) 18 981 dL_law_33 he (by decide) (by decide) rfl (by decide) (lwc_18 hK hc6 hV hI)
    | 19, _, he => exact r_tin (off := 1011) 19 1044 dL_law_33 he (by decide) (by decide) rfl (by decide) (lwc_19 hK hc6 hV hI)
    | 20, _, he => exact r_tin (off := 1064) 20 1097 dL_law_33 he (by decide) (by decide) rfl (by decide) (lwc_20 hK hc6 hV hI)
    | 21, _, he => exact r_tin (off := 1107) 21 1140 dL_law_33 he (by decide) (by decide) rfl (by decide) (lwc_21 hK hc6 hV hI)
    | 22, _, he => exact r_tin (off := 1130) 22 1163 dL_law_33 he (by decide) (by decide) rfl (by decide) (lwc_22 hK hc6 hV hI)
    | 23, _, he => exact r_tin (off := 1173) 23 1206 dL_law_33 he (by decide) (by decide) rfl (by decide) (lwc_23 hK hc6 hV hI)
    | 24, _, he => exact r_tin (off := 1217) 24 1250 dL_law_33 he (by decide) (by decide) rfl (by decide) (lwc_24 hK hc6 hV hC hI)
    | 25, _, he => exact r_tin (off := 1280) 25 1313 dL_law_33 he (by decide) (by decide) rfl (by decide) (lwc_25 hK hc6 hV hI)
    | 26, _, he => exact r_tin (off := 1303) 26 1336 dL_law_33 he (by decide) (by decide) rfl (by decide) (lwc_26 hK hc6 hV hI)
    | 27, _, he => exact r_tin (off := 1326) 27 1359 dL_law_33 he (by decide) (by decide) rfl (by decide) (lwc_27 hK hc6 hV hI)
    | 28, _, he => exact r_tin (off := 1359) 28 1392 dL_law_33 he (by decide) (by decide) rfl (by decide) (lwc_28 hK hc6 hV hI)
    | 29, _, he => exact r_tin (off := 1372) 29 1405 dL_law_33 he (by decide) (by decide) rfl (by decide) (lwc_29 hK hc6 hV hI)
    | 30, _, he => exact r_tin (off := 1385) 30 1418 dL_law_33 he (by decide) (by decide) rfl (by decide) (lwc_30 hK hc6 hV hI)
    | z + 31, hz, _ => exact absurd hz (by omega)
