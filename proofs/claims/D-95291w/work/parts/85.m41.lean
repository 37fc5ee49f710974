/-! THE CLASS: refused fails failsLong rowIn; put -/
set_option maxRecDepth 100000
set_option maxHeartbeats 4000000 in
theorem ev_X0_refused {w : WE} {v : Int32} {A : Hp} {x : XT} {S : ST} (hx : XS w A x S) : EvP w mX0_refused 1 0 0 [.ref (wb w), .int v] A (some (.int v)) (fun A' => ∃ x' : XT, XS w A' x' (sF S (nI 0)) ∧ Fx w A A') := by
  refine Ev.mk 0 [some (.ref (wb w)), some (.int v)] rfl plX0 (Nat.le_of_ble_eq_true rfl) ?_
  refine r_aload_n 1 dX0_refused_0 rfl rfl lo0 ?_
  refine r_iconst 2 dX0_refused_1 rfl ic_0 ?_
  refine rx_fault 5 dX0_refused_2 rfl hx Fx.rf g_X0_242_0 (fun A hx hF => ?_)
  refine r_iload_n 6 dX0_refused_5 rfl rfl lo1 ?_
  exact r_iret dX0_refused_6 rfl (Nat.le_refl _) (Nat.le_refl _) ⟨rfl, _, hx, hF⟩

set_option maxHeartbeats 4000000 in
theorem ev_X0_fails {w : WE} {v : Nat} (hv : v ≤ 4) {A : Hp} {x : XT} {S : ST} (hx : XS w A x S) : EvP w mX0_fails 1 0 0 [.ref (wb w), .int (nI v)] A (some (.int (fl v))) (fun A' => ∃ x' : XT, XS w A' x' (sF S (nI v)) ∧ Fx w A A') := by
  refine Ev.mk 0 [some (.ref (wb w)), some (.int (nI v))] rfl plX0 (Nat.le_of_ble_eq_true rfl) ?_
  refine r_aload_n 1 dX0_fails_0 rfl rfl lo0 ?_
  refine r_iload_n 2 dX0_fails_1 rfl rfl lo1 ?_
  refine rx_fault 5 dX0_fails_2 rfl hx Fx.rf g_X0_242_0 (fun A hx hF => ?_)
  refine r_bipush 7 dX0_fails_5 rfl bi_m10 ?_
  refine r_iload_n 8 dX0_fails_7 rfl rfl lo1 ?_
  refine r_isub 9 dX0_fails_8 rfl ?_
  exact r_iret dX0_fails_9 rfl (Nat.le_refl _) (Nat.le_refl _) ⟨rfl, _, hx, hF⟩

set_option maxHeartbeats 4000000 in
theorem ev_X0_failsLong {w : WE} {v : Nat} {A : Hp} {x : XT} {S : ST} (hx : XS w A x S) : EvP w mX0_failsLong 1 0 0 [.ref (wb w), .int (nI v)] A (some (.long LOST)) (fun A' => ∃ x' : XT, XS w A' x' (sF S (nI v)) ∧ Fx w A A') := by
  refine Ev.mk 0 [some (.ref (wb w)), some (.int (nI v))] rfl plX0 (Nat.le_of_ble_eq_true rfl) ?_
  refine r_aload_n 1 dX0_failsLong_0 rfl rfl lo0 ?_
  refine r_iload_n 2 dX0_failsLong_1 rfl rfl lo1 ?_
  refine rx_fault 5 dX0_failsLong_2 rfl hx Fx.rf g_X0_242_0 (fun A hx hF => ?_)
  refine r_ldc2 8 dX0_failsLong_5 rfl q461 ?_
  exact r_lret dX0_failsLong_8 rfl (Nat.le_refl _) (Nat.le_refl _) ⟨rfl, _, hx, hF⟩

theorem XS.gb {w : WE} {A : Hp} {x : XT} {S : ST} (h : XS w A x S) (j : Nat) : XS w (A.1, A.2 + j) x S := h.keep (fun _ _ _ hy => hy)
theorem Fx.gb {w : WE} {A0 A : Hp} (h : Fx w A0 A) (j : Nat) : Fx w A0 (A.1, A.2 + j) := ⟨Nat.le_trans h.1 (Nat.le_add_right _ _), h.2⟩
theorem XS.none {w : WE} {A : Hp} {x : XT} {S : ST} {k : Nat} (h : XS w A x S) (hk : k < 4) (hn : S.2.2.2.2.2 k = Option.none) : (x.2.2.2.2.2 k).map (fun p => p.1) = Option.none := by
  rcases h.sh.2.1 k hk with ⟨-, h2⟩ | ⟨q, p, f, h1, -⟩
  · rw [h2]; rfl
  · rw [hn] at h1
    cases h1
theorem XS.some {w : WE} {A : Hp} {x : XT} {S : ST} {k : Nat} {q : Sh} (h : XS w A x S) (hk : k < 4) (hn : S.2.2.2.2.2 k = Option.some q) : ∃ (p : Nat × Nat) (f : Nat → Int32), x.2.2.2.2.2 k = Option.some p ∧ q.1 ≤ 2 ∧ q.2.1 ≤ 60 ∧ dyn w p.1 ∧ dyn w p.2 ∧ A.1 p.1 = Option.some (.inr (6, [.ref p.2])) ∧ A.1 p.2 = Option.some (eI w (ln q.1) q.2.1 f) ∧ ∀ i, i < q.2.1 → f i = q.2.2 i := by
  rcases h.sh.2.1 k hk with ⟨h1, h2⟩ | ⟨q', p, f, h1, h2, h3⟩
  · rw [hn] at h1
    cases h1
  · rw [hn] at h1
    cases h1
    exact ⟨p, f, h2, h3⟩
/-- a cell of a sheet is set -/
theorem XS.put {w : WE} {A : Hp} {x : XT} {S : ST} {k j : Nat} {q : Sh} {p : Nat × Nat} {f : Nat → Int32} {y : Int32} (h : XS w A x S) (hk : k < 4) (hq : S.2.2.2.2.2 k = Option.some q) (hp : x.2.2.2.2.2 k = Option.some p) (hA : A.1 p.2 = Option.some (eI w (ln q.1) q.2.1 f)) (hf : ∀ i, i < q.2.1 → f i = q.2.2 i) (hd : dyn w p.2) : XS w (hp_up A p.2 (eI w (ln q.1) q.2.1 (upd f j y))) x (sH S k (Option.some (q.1, q.2.1, upd q.2.2 j y))) := by
  have hb : wb w + 21 = mb w := rfl
  have hkp : ∀ z, z ≠ p.2 → Kp A (hp_up A p.2 (eI w (ln q.1) q.2.1 (upd f j y))) z := fun z hz e he => (hp_up_n hz).trans he
  obtain ⟨⟨a1, a2, a3⟩, ⟨b1, b2⟩, ⟨c1, c2⟩, d, e, ⟨f1, f2, f3⟩, g⟩ := h
  have hfx : ∀ m, m ≤ 20 → Kp A (hp_up A p.2 (eI w (ln q.1) q.2.1 (upd f j y))) (wb w + m) := fun m hm => hkp _ (by omega)
  have hin : ∀ {z : Nat} {o : Nat × List Value}, A.1 z = Option.some (.inr o) → (hp_up A p.2 (eI w (ln q.1) q.2.1 (upd f j y))).1 z = Option.some (.inr o) := fun {z o} hz => hkp z (ne_io hz hA) _ hz
  have hls : ∀ {z : Nat} {cap : Nat} {gg : Nat → Option Nat}, A.1 z = Option.some (eR w 5 cap gg) → z ≠ p.2 := fun hz => (ne_ii hA hz).symm
  refine ⟨⟨hfx 0 (by decide) _ a1, fun m hm => hfx m (by rcases hm with h | h <;> omega) _ (a2 m hm), hfx 4 (by decide) _ a3⟩, ⟨b1.keep (hfx 1 (by decide)) ?_, fun i r hr => ⟨(b2 i r hr).1, hin (b2 i r hr).2⟩⟩, ⟨c1.keep (hfx 2 (by decide)) ?_, fun i r hr => ⟨(c2 i r hr).1, hin (c2 i r hr).2⟩⟩, ⟨hfx 20 (by decide) _ d.1, fun i hi => ?_, d.2.2⟩, e, ⟨(hp_up_n (by omega)).trans f1, f2, f3⟩, ?_⟩
  · obtain ⟨_, _, _, _, u, _⟩ := b1
    exact hkp _ (hls u)
  · obtain ⟨_, _, _, _, u, _⟩ := c1
    exact hkp _ (hls u)
  · by_cases e1 : i = k
    · subst e1
      rcases d.2.1 i hi with ⟨h1, -⟩ | ⟨q', p', f', h1, h2, h3, h4, h5, h6, h7, h8, h9⟩
      · rw [hq] at h1
        cases h1
      · rw [hq] at h1
        cases h1
        rw [hp] at h2
        cases h2
        refine Or.inr ⟨(q.1, q.2.1, upd q.2.2 j y), p, upd f j y, by simp [va_up], hp, h3, h4, h5, h6, hin h7, hp_up_s, fun i hi => ?_⟩
        show upd f j y i = upd q.2.2 j y i
        by_cases e2 : i = j
        · subst e2
          rw [upd_s, upd_s]
        · rw [upd_n e2, upd_n e2]
          exact hf i hi
    · have hs : (sH S k (Option.some (q.1, q.2.1, upd q.2.2 j y))).2.2.2.2.2 i = S.2.2.2.2.2 i := by simp [va_up, e1]
      rw [hs]
      rcases d.2.1 i hi with h1 | ⟨q', p', f', h1, h2, h3, h4, h5, h6, h7, h8, h9⟩
      · exact Or.inl h1
      · refine Or.inr ⟨q', p', f', h1, h2, h3, h4, h5, h6, hin h7, ?_, h9⟩
        exact (hp_up_n (d.2.2 i k p' p hi hk e1 h2 hp)).trans h8
  · exact ⟨⟨g.1.1, g.1.2⟩, g.2⟩
