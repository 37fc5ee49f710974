/-! JOURNEYS: the reference reckons the least hour by any way -/
set_option maxRecDepth 100000
section STT
variable {ms : List Mo} {q : Rd} {tk : Nat}
theorem stt_mono : ∀ (d t s' : Nat), t + d ≤ 2000 → stt ms q tk (t + d) = some s' → ∃ s, stt ms q tk t = some s ∧ s ≤ s'
  | 0, t, s', h, e => ⟨s', e, Nat.le_refl _⟩
  | d + 1, t, s', h, e => by
    obtain ⟨s, h1, h2⟩ := stt_mono d (t + 1) s' (by omega) (by rw [show t + 1 + d = t + (d + 1) by omega]; exact e)
    rw [stt_step (by omega)]
    split
    · have := stt_le (show t + 1 ≤ 2000 by omega) h1
      exact ⟨t, rfl, by omega⟩
    · exact ⟨s, h1, h2⟩
theorem stt_mn {t t' s' : Nat} (h : t ≤ t') (h2 : t' ≤ 2000) (e : stt ms q tk t' = some s') : ∃ s, stt ms q tk t = some s ∧ s ≤ s' := by
  obtain ⟨d, rfl⟩ : ∃ d, t' = t + d := ⟨t' - t, by omega⟩
  exact stt_mono d t s' h2 e
theorem stt_id {s : Nat} : ∀ (d t : Nat), t + d = 2000 → stt ms q tk t = some s → stt ms q tk s = some s
  | 0, t, h, e => by
    rw [show t = 2000 by omega, stt_end] at e
    cases e
  | d + 1, t, h, e => by
    have e' := e
    rw [stt_step (by omega)] at e
    split at e
    · cases e
      exact e'
    · exact stt_id d (t + 1) (by omega) e
theorem stt_idem {t s : Nat} (h : t ≤ 2000) (e : stt ms q tk t = some s) : stt ms q tk s = some s := stt_id (2000 - t) t (by omega) e
end STT
/-- the road q goes from y to x -/
def Jn (q : Rd) (y x : Nat) : Prop := (q.2.1 = y ∧ q.2.2.1 = x) ∨ (q.2.2.1 = y ∧ q.2.1 = x)
/-- x can be reached at t, by at most j crossings -/
def rch (ms : List Mo) (herd : Bool) (rs : List Rd) (f h : Nat) : Nat → Nat → Nat → Prop
  | 0, x, t => x = f ∧ t = h
  | j + 1, x, t => rch ms herd rs f h j x t ∨ ∃ (q : Rd) (y u s : Nat), q ∈ rs ∧ Jn q y x ∧ rch ms herd rs f h j y u ∧ stt ms q (tkO herd q) u = some s ∧ t = s + tkO herd q
/-- T: of each island the least hour -/
def Lst (isl : Nat) (ms : List Mo) (herd : Bool) (rs : List Rd) (f h : Nat) (T : Nat → Nat) : Prop := (∀ x, x < isl → T x ≤ 2000 → ∃ j, rch ms herd rs f h j x (T x)) ∧ ∀ j x t, x < isl → rch ms herd rs f h j x t → T x ≤ t
section RCH
variable {isl : Nat} {ms : List Mo} {herd : Bool} {rs : List Rd} {f h : Nat} {T T' : Nat → Nat}
theorem rch_le (hh : h ≤ 2000) : ∀ j x t, rch ms herd rs f h j x t → h ≤ t ∧ t ≤ 2000
  | 0, x, t, hr => by
    obtain ⟨-, rfl⟩ := hr
    exact ⟨Nat.le_refl _, hh⟩
  | j + 1, x, t, hr => by
    rcases hr with hr | ⟨q, y, u, s, hq, hj, hy, hs, rfl⟩
    · exact rch_le hh j x t hr
    · have h1 := rch_le hh j y u hy
      have h2 := stt_le h1.2 hs
      omega
theorem Lst.uniq (h1 : Lst isl ms herd rs f h T) (h2 : Lst isl ms herd rs f h T') {x : Nat} (hx : x < isl) (hle : T x ≤ 2000) : T' x = T x := by
  obtain ⟨j, hj⟩ := h1.1 x hx hle
  have a := h2.2 j x _ hx hj
  obtain ⟨j', hj'⟩ := h2.1 x hx (by omega)
  have b := h1.2 j' x _ hx hj'
  omega
theorem clo_lst (hh : h ≤ 2000) (hf : T f ≤ h) (hc : ∀ q, q ∈ rs → ∀ y x s, Jn q y x → T y ≤ 2000 → stt ms q (tkO herd q) (T y) = some s → T x ≤ s + tkO herd q) : ∀ j x t, rch ms herd rs f h j x t → T x ≤ t
  | 0, x, t, hr => by
    obtain ⟨rfl, rfl⟩ := hr
    exact hf
  | j + 1, x, t, hr => by
    rcases hr with hr | ⟨q, y, u, s, hq, hj, hy, hs, rfl⟩
    · exact clo_lst hh hf hc j x t hr
    · have h1 := rch_le hh j y u hy
      have h2 := clo_lst hh hf hc j y u hy
      obtain ⟨s', e1, e2⟩ := stt_mn h2 h1.2 hs
      have := hc q hq y x s' hj (by omega) e1
      omega
/-! the reference's rounds -/
theorem rlx_mono {q : Rd} {tk a b : Nat} (x : Nat) : rlx ms q tk a b T x ≤ T x := by
  by_cases h2 : 2000 < T a
  · rw [rlx_9 h2]
    exact Nat.le_refl _
  · rcases e : stt ms q tk (T a) with _ | s
    · rw [rlx_n h2 e]
      exact Nat.le_refl _
    · rw [rlx_s h2 e]
      split
      · unfold upN
        split
        · rename_i e
          subst e
          omega
        · exact Nat.le_refl _
      · exact Nat.le_refl _
theorem rlq_mono {q : Rd} (x : Nat) : rlq ms herd q T x ≤ T x := Nat.le_trans (rlx_mono x) (rlx_mono x)
theorem bfR_mono (x : Nat) : ∀ (l : List Rd) (T : Nat → Nat), bfR ms herd l T x ≤ T x
  | [], T => Nat.le_refl _
  | q :: l, T => Nat.le_trans (bfR_mono x l (rlq ms herd q T)) (rlq_mono x)
theorem rlx_hit {q : Rd} {tk a b u s : Nat} (h1 : T a ≤ u) (h2 : u ≤ 2000) (e : stt ms q tk u = some s) : rlx ms q tk a b T b ≤ s + tk := by
  obtain ⟨s', e1, e2⟩ := stt_mn h1 h2 e
  rw [rlx_s (by omega) e1]
  split
  · unfold upN
    rw [if_pos rfl]
    omega
  · omega
theorem rlq_hit {q : Rd} {y x u s : Nat} (hj : Jn q y x) (h1 : T y ≤ u) (h2 : u ≤ 2000) (e : stt ms q (tkO herd q) u = some s) : rlq ms herd q T x ≤ s + tkO herd q := by
  rcases hj with ⟨rfl, rfl⟩ | ⟨rfl, rfl⟩
  · exact Nat.le_trans (rlx_mono _) (rlx_hit h1 h2 e)
  · exact rlx_hit (Nat.le_trans (rlx_mono _) h1) h2 e
theorem bfR_hit {q : Rd} {y x u s : Nat} (hj : Jn q y x) (h2 : u ≤ 2000) (e : stt ms q (tkO herd q) u = some s) : ∀ (l : List Rd) (T : Nat → Nat), q ∈ l → T y ≤ u → bfR ms herd l T x ≤ s + tkO herd q
  | [], T, hq, _ => by cases hq
  | p :: l, T, hq, h1 => by
    rcases List.mem_cons.mp hq with rfl | hq
    · exact Nat.le_trans (bfR_mono x l _) (rlq_hit hj h1 h2 e)
    · exact bfR_hit hj h2 e l (rlq ms herd p T) hq (Nat.le_trans (rlq_mono y) h1)
/-- something sooner can be reached -/
def Uns (ms : List Mo) (herd : Bool) (rs : List Rd) (f h : Nat) (T : Nat → Nat) (x : Nat) : Prop := ∃ j t, rch ms herd rs f h j x t ∧ t < T x
theorem bf_prog (hok : ∀ q ∈ rs, RdOk isl q) (hh : h ≤ 2000) (hf : T f ≤ h) (hu : ∃ x, x < isl ∧ Uns ms herd rs f h T x) : ∃ x, x < isl ∧ Uns ms herd rs f h T x ∧ ¬ Uns ms herd rs f h (bfR ms herd rs T) x := by
  obtain ⟨x0, hx0, j0, t0, hr0, hl0⟩ := hu
  obtain ⟨t, ⟨x, hx, j, hr, hlt⟩, hmin⟩ := pk_least (fun t => ∃ x, x < isl ∧ ∃ j, rch ms herd rs f h j x t ∧ t < T x) ⟨t0, x0, hx0, j0, hr0, hl0⟩
  have key : ∀ j, rch ms herd rs f h j x t → bfR ms herd rs T x ≤ t := by
    intro j
    induction j with
    | zero =>
      intro hr
      obtain ⟨rfl, rfl⟩ := hr
      omega
    | succ j ih =>
      intro hr
      rcases hr with hr | ⟨q, y, u, s, hq, hj, hy, hs, rfl⟩
      · exact ih hr
      · have h1 := rch_le hh j y u hy
        have h2 := stt_le h1.2 hs
        have h3 := tkO_le (herd := herd) (hok q hq)
        obtain ⟨o1, o2, o3, -⟩ := hok q hq
        have hyl : y < isl := by
          rcases hj with ⟨rfl, rfl⟩ | ⟨rfl, rfl⟩
          · exact o2
          · exact o3
        have h4 : T y ≤ u := by
          refine Nat.le_of_not_lt (fun c => hmin u (by omega) ⟨y, hyl, j, hy, c⟩)
        exact bfR_hit hj h1.2 hs rs T hq h4
  refine ⟨x, hx, ⟨j, t, hr, hlt⟩, fun z => ?_⟩
  obtain ⟨j', t', hr', hlt'⟩ := z
  have := key j hr
  exact hmin t' (by omega) ⟨x, hx, j', hr', by omega⟩
end RCH
/-- how many numbers less than n have p -/
noncomputable def cn (p : Nat → Prop) : Nat → Nat
  | 0 => 0
  | n + 1 => cn p n + @ite Nat (p n) (Classical.propDecidable (p n)) 1 0
theorem cn_t {p : Nat → Prop} {n : Nat} (h : p n) : cn p (n + 1) = cn p n + 1 := by
  show cn p n + @ite Nat (p n) (Classical.propDecidable (p n)) 1 0 = _
  rw [if_pos h]
theorem cn_f {p : Nat → Prop} {n : Nat} (h : ¬ p n) : cn p (n + 1) = cn p n := by
  show cn p n + @ite Nat (p n) (Classical.propDecidable (p n)) 1 0 = _
  rw [if_neg h, Nat.add_zero]
theorem cn_mono {p q : Nat → Prop} : ∀ n, (∀ x, x < n → p x → q x) → cn p n ≤ cn q n
  | 0, _ => Nat.le_refl _
  | n + 1, h => by
    have ih := cn_mono n (fun x hx => h x (by omega))
    by_cases hp : p n
    · rw [cn_t hp, cn_t (h n (by omega) hp)]
      omega
    · rw [cn_f hp]
      by_cases hq : q n
      · rw [cn_t hq]
        omega
      · rw [cn_f hq]
        exact ih
theorem cn_lt {p q : Nat → Prop} {x : Nat} (hq : q x) (hp : ¬ p x) : ∀ n, (∀ x, x < n → p x → q x) → x < n → cn p n < cn q n
  | 0, _, hx => absurd hx (Nat.not_lt_zero _)
  | n + 1, h, hx => by
    by_cases e : x = n
    · subst e
      rw [cn_f hp, cn_t hq]
      have := cn_mono x (fun y hy => h y (by omega))
      omega
    · have ih := cn_lt hq hp n (fun x hx => h x (by omega)) (by omega)
      by_cases hp' : p n
      · rw [cn_t hp', cn_t (h n (by omega) hp')]
        omega
      · rw [cn_f hp']
        by_cases hq' : q n
        · rw [cn_t hq']
          omega
        · rw [cn_f hq']
          exact ih
theorem cn_le {p : Nat → Prop} : ∀ n, cn p n ≤ n
  | 0 => Nat.le_refl _
  | n + 1 => by
    have := cn_le (p := p) n
    by_cases hp : p n
    · rw [cn_t hp]
      omega
    · rw [cn_f hp]
      omega
theorem cn_z {p : Nat → Prop} : ∀ n, cn p n = 0 → ∀ x, x < n → ¬ p x
  | 0, _, x, hx => absurd hx (Nat.not_lt_zero _)
  | n + 1, h, x, hx => by
    by_cases hp : p n
    · rw [cn_t hp] at h
      omega
    · rw [cn_f hp] at h
      by_cases e : x = n
      · subst e
        exact hp
      · exact cn_z n h x (by omega)
theorem cn_0 {p : Nat → Prop} : ∀ n, (∀ x, x < n → ¬ p x) → cn p n = 0
  | 0, _ => rfl
  | n + 1, h => by
    rw [cn_f (h n (by omega))]
    exact cn_0 n (fun x hx => h x (by omega))
section BF
variable {isl : Nat} {ms : List Mo} {herd : Bool} {rs : List Rd} {f h : Nat} {T T' : Nat → Nat}
theorem bfN_uns (hok : ∀ q ∈ rs, RdOk isl q) (hh : h ≤ 2000) : ∀ (j : Nat) (T : Nat → Nat), T f ≤ h → cn (Uns ms herd rs f h T) isl ≤ j → ∀ x, x < isl → ¬ Uns ms herd rs f h (bfN ms herd rs j T) x
  | 0, T, hf, hc => cn_z isl (show cn (Uns ms herd rs f h T) isl = 0 by omega)
  | j + 1, T, hf, hc => by
    refine bfN_uns hok hh j (bfR ms herd rs T) (Nat.le_trans (bfR_mono f rs T) hf) ?_
    have hm : ∀ x, x < isl → Uns ms herd rs f h (bfR ms herd rs T) x → Uns ms herd rs f h T x := fun x hx z => by
      obtain ⟨j, t, a, b⟩ := z
      exact ⟨j, t, a, Nat.lt_of_lt_of_le b (bfR_mono x rs T)⟩
    by_cases hu : ∃ x, x < isl ∧ Uns ms herd rs f h T x
    · obtain ⟨x, hx, h1, h2⟩ := bf_prog hok hh hf hu
      have := cn_lt h1 h2 isl hm hx
      omega
    · rw [cn_0 isl (fun x hx z => hu ⟨x, hx, hm x hx z⟩)]
      exact Nat.zero_le _
def Snd (ms : List Mo) (herd : Bool) (rs : List Rd) (f h : Nat) (T : Nat → Nat) : Prop := ∀ x, T x ≤ 2000 → ∃ j, rch ms herd rs f h j x (T x)
theorem Snd.up {q : Rd} {a b s : Nat} (hS : Snd ms herd rs f h T) (hq : q ∈ rs) (hj : Jn q a b) (ha : T a ≤ 2000) (e : stt ms q (tkO herd q) (T a) = some s) : Snd ms herd rs f h (upN T b (s + tkO herd q)) := by
  intro x hx
  unfold upN at hx ⊢
  split
  · rename_i ex
    subst ex
    obtain ⟨j, h1⟩ := hS a ha
    exact ⟨j + 1, Or.inr ⟨q, a, T a, s, hq, hj, h1, e, rfl⟩⟩
  · rename_i ex
    rw [if_neg ex] at hx
    exact hS x hx
theorem Snd.rlx {q : Rd} {a b : Nat} (hS : Snd ms herd rs f h T) (hq : q ∈ rs) (hj : Jn q a b) : Snd ms herd rs f h (rlx ms q (tkO herd q) a b T) := by
  by_cases h2 : 2000 < T a
  · rw [rlx_9 h2]
    exact hS
  · rcases e : stt ms q (tkO herd q) (T a) with _ | s
    · rw [rlx_n h2 e]
      exact hS
    · rw [rlx_s h2 e]
      split
      · exact hS.up hq hj (by omega) e
      · exact hS
theorem Snd.bfR : ∀ (l : List Rd) (T : Nat → Nat), (∀ q ∈ l, q ∈ rs) → Snd ms herd rs f h T → Snd ms herd rs f h (bfR ms herd l T)
  | [], T, _, hS => hS
  | q :: l, T, hl, hS => Snd.bfR l (rlq ms herd q T) (fun p hp => hl p (List.mem_cons_of_mem _ hp)) ((hS.rlx (hl q List.mem_cons_self) (Or.inl ⟨rfl, rfl⟩)).rlx (hl q List.mem_cons_self) (Or.inr ⟨rfl, rfl⟩))
theorem Snd.bfN : ∀ (j : Nat) (T : Nat → Nat), Snd ms herd rs f h T → Snd ms herd rs f h (bfN ms herd rs j T)
  | 0, T, hS => hS
  | j + 1, T, hS => Snd.bfN j _ (Snd.bfR rs T (fun _ h => h) hS)
theorem bf_lst (hok : ∀ q ∈ rs, RdOk isl q) (hh : h ≤ 2000) : Lst isl ms herd rs f h (bf isl ms herd rs f h) := by
  have h0 : bf0 f h f = h := if_pos rfl
  refine ⟨fun x _ hx => Snd.bfN isl (bf0 f h) (fun y hy => ?_) x hx, fun j x t hx hr => ?_⟩
  · unfold bf0 at hy ⊢
    split at hy
    · rename_i e
      rw [if_pos e]
      exact ⟨0, e, rfl⟩
    · omega
  · exact Nat.le_of_not_lt (fun c => bfN_uns hok hh isl (bf0 f h) (by omega) (cn_le isl) x hx ⟨j, t, hr, c⟩)
/-- never, as the class has it -/
def cp (t : Nat) : Nat := if 2000 < t then 2001 else t
theorem cp_bf (hok : ∀ q ∈ rs, RdOk isl q) (hh : h ≤ 2000) (hT : Lst isl ms herd rs f h T) {x : Nat} (hx : x < isl) (h1 : T x ≤ 2001) : T x = cp (bf isl ms herd rs f h x) := by
  have hb := bf_lst (f := f) (herd := herd) (ms := ms) hok hh
  unfold cp
  split
  · rename_i hc
    by_cases e : T x ≤ 2000
    · have := hT.uniq hb hx e
      omega
    · omega
  · rename_i hc
    exact hb.uniq hT hx (by omega)
end BF
