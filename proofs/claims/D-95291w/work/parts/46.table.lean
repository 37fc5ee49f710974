/-! THE TABLE OF ORDERS: all orders of n islands, and that nextOrder goes through them -/
set_option maxRecDepth 100000
def PT : Nat → List (List Nat) := fun n => match n with
  | 1 => [[0]]
  | 2 => [[0, 1], [1, 0]]
  | 3 => [[0, 1, 2], [0, 2, 1], [1, 0, 2], [1, 2, 0], [2, 0, 1], [2, 1, 0]]
  | 4 => [[0, 1, 2, 3], [0, 1, 3, 2], [0, 2, 1, 3], [0, 2, 3, 1], [0, 3, 1, 2], [0, 3, 2, 1], [1, 0, 2, 3], [1, 0, 3, 2], [1, 2, 0, 3], [1, 2, 3, 0], [1, 3, 0, 2], [1, 3, 2, 0], [2, 0, 1, 3], [2, 0, 3, 1], [2, 1, 0, 3], [2, 1, 3, 0], [2, 3, 0, 1], [2, 3, 1, 0], [3, 0, 1, 2], [3, 0, 2, 1], [3, 1, 0, 2], [3, 1, 2, 0], [3, 2, 0, 1], [3, 2, 1, 0]]
  | 5 => [[0, 1, 2, 3, 4], [0, 1, 2, 4, 3], [0, 1, 3, 2, 4], [0, 1, 3, 4, 2], [0, 1, 4, 2, 3], [0, 1, 4, 3, 2], [0, 2, 1, 3, 4], [0, 2, 1, 4, 3], [0, 2, 3, 1, 4], [0, 2, 3, 4, 1], [0, 2, 4, 1, 3], [0, 2, 4, 3, 1], [0, 3, 1, 2, 4], [0, 3, 1, 4, 2], [0, 3, 2, 1, 4], [0, 3, 2, 4, 1], [0, 3, 4, 1, 2], [0, 3, 4, 2, 1], [0, 4, 1, 2, 3], [0, 4, 1, 3, 2], [0, 4, 2, 1, 3], [0, 4, 2, 3, 1], [0, 4, 3, 1, 2], [0, 4, 3, 2, 1], [1, 0, 2, 3, 4], [1, 0, 2, 4, 3], [1, 0, 3, 2, 4], [1, 0, 3, 4, 2], [1, 0, 4, 2, 3], [1, 0, 4, 3, 2], [1, 2, 0, 3, 4], [1, 2, 0, 4, 3], [1, 2, 3, 0, 4], [1, 2, 3, 4, 0], [1, 2, 4, 0, 3], [1, 2, 4, 3, 0], [1, 3, 0, 2, 4], [1, 3, 0, 4, 2], [1, 3, 2, 0, 4], [1, 3, 2, 4, 0], [1, 3, 4, 0, 2], [1, 3, 4, 2, 0], [1, 4, 0, 2, 3], [1, 4, 0, 3, 2], [1, 4, 2, 0, 3], [1, 4, 2, 3, 0], [1, 4, 3, 0, 2], [1, 4, 3, 2, 0], [2, 0, 1, 3, 4], [2, 0, 1, 4, 3], [2, 0, 3, 1, 4], [2, 0, 3, 4, 1], [2, 0, 4, 1, 3], [2, 0, 4, 3, 1], [2, 1, 0, 3, 4], [2, 1, 0, 4, 3], [2, 1, 3, 0, 4], [2, 1, 3, 4, 0], [2, 1, 4, 0, 3], [2, 1, 4, 3, 0], [2, 3, 0, 1, 4], [2, 3, 0, 4, 1], [2, 3, 1, 0, 4], [2, 3, 1, 4, 0], [2, 3, 4, 0, 1], [2, 3, 4, 1, 0], [2, 4, 0, 1, 3], [2, 4, 0, 3, 1], [2, 4, 1, 0, 3], [2, 4, 1, 3, 0], [2, 4, 3, 0, 1], [2, 4, 3, 1, 0], [3, 0, 1, 2, 4], [3, 0, 1, 4, 2], [3, 0, 2, 1, 4], [3, 0, 2, 4, 1], [3, 0, 4, 1, 2], [3, 0, 4, 2, 1], [3, 1, 0, 2, 4], [3, 1, 0, 4, 2], [3, 1, 2, 0, 4], [3, 1, 2, 4, 0], [3, 1, 4, 0, 2], [3, 1, 4, 2, 0], [3, 2, 0, 1, 4], [3, 2, 0, 4, 1], [3, 2, 1, 0, 4], [3, 2, 1, 4, 0], [3, 2, 4, 0, 1], [3, 2, 4, 1, 0], [3, 4, 0, 1, 2], [3, 4, 0, 2, 1], [3, 4, 1, 0, 2], [3, 4, 1, 2, 0], [3, 4, 2, 0, 1], [3, 4, 2, 1, 0], [4, 0, 1, 2, 3], [4, 0, 1, 3, 2], [4, 0, 2, 1, 3], [4, 0, 2, 3, 1], [4, 0, 3, 1, 2], [4, 0, 3, 2, 1], [4, 1, 0, 2, 3], [4, 1, 0, 3, 2], [4, 1, 2, 0, 3], [4, 1, 2, 3, 0], [4, 1, 3, 0, 2], [4, 1, 3, 2, 0], [4, 2, 0, 1, 3], [4, 2, 0, 3, 1], [4, 2, 1, 0, 3], [4, 2, 1, 3, 0], [4, 2, 3, 0, 1], [4, 2, 3, 1, 0], [4, 3, 0, 1, 2], [4, 3, 0, 2, 1], [4, 3, 1, 0, 2], [4, 3, 1, 2, 0], [4, 3, 2, 0, 1], [4, 3, 2, 1, 0]]
  | _ => []
def tbf (n i k : Nat) : Nat := ((PT n).getD i []).getD k 0
def tbok (n i : Nat) : Bool := decide ((0 < fp (tbf n i) (n - 1)) ↔ i + 1 < (PT n).length) && (List.range n).all (fun k => decide (tbf n i k < n) && (!decide (i + 1 < (PT n).length) || decide (nxo n (tbf n i) k = tbf n (i + 1) k)))
theorem tb_all : (List.range 6).all (fun n => (List.range (PT n).length).all (fun i => tbok n i)) = true := by decide +kernel
theorem tb_len : ∀ n, n ≤ 5 → (PT n).length ≤ 120 := by decide +kernel
theorem tb_one : ∀ n, n ≤ 5 → 1 ≤ n → 0 < (PT n).length ∧ ∀ k, k < n → tbf n 0 k = k := by decide +kernel
theorem tb_at {n i : Nat} (hn : n ≤ 5) (hi : i < (PT n).length) : ((0 < fp (tbf n i) (n - 1)) ↔ i + 1 < (PT n).length) ∧ ∀ k, k < n → tbf n i k < n ∧ (i + 1 < (PT n).length → nxo n (tbf n i) k = tbf n (i + 1) k) := by
  have h1 := List.all_eq_true.mp tb_all n (List.mem_range.mpr (by omega))
  have h2 := List.all_eq_true.mp h1 i (List.mem_range.mpr hi)
  unfold tbok at h2
  rw [Bool.and_eq_true] at h2
  refine ⟨of_decide_eq_true h2.1, fun k hk => ?_⟩
  have h3 := List.all_eq_true.mp h2.2 k (List.mem_range.mpr hk)
  rw [Bool.and_eq_true] at h3
  refine ⟨of_decide_eq_true h3.1, fun h => ?_⟩
  have h4 := h3.2
  rw [decide_eq_true h] at h4
  simpa using h4
/-! orders under a rising map; orders that agree -/
theorem fp_map {φ : Nat → Nat} (hφ : ∀ a b, φ a < φ b ↔ a < b) (od : Nat → Nat) : ∀ p, fp (fun k => φ (od k)) p = fp od p
  | 0 => rfl
  | p + 1 => by
    by_cases h : od (p + 1) < od p
    · rw [fp_t h, fp_t (od := fun k => φ (od k)) ((hφ _ _).mpr h)]
      exact fp_map hφ od p
    · rw [fp_f h, fp_f (od := fun k => φ (od k)) (fun x => h ((hφ _ _).mp x))]
theorem fq_map {φ : Nat → Nat} (hφ : ∀ a b, φ a < φ b ↔ a < b) (od : Nat → Nat) (v : Nat) : ∀ q, fq (fun k => φ (od k)) (φ v) q = fq od v q
  | 0 => rfl
  | q + 1 => by
    by_cases h : od (q + 1) < v
    · rw [fq_t h, fq_t (od := fun k => φ (od k)) ((hφ _ _).mpr h)]
      exact fq_map hφ od v q
    · rw [fq_f h, fq_f (od := fun k => φ (od k)) (fun x => h ((hφ _ _).mp x))]
theorem swp_map {φ : Nat → Nat} (od : Nat → Nat) (p q : Nat) : swp (fun k => φ (od k)) p q = fun k => φ (swp od p q k) := by
  funext k
  unfold swp
  split
  · rfl
  · split <;> rfl
theorem rvs_map {φ : Nat → Nat} : ∀ (j : Nat) (od : Nat → Nat) (lo hi : Nat), rvs j (fun k => φ (od k)) lo hi = fun k => φ (rvs j od lo hi k)
  | 0, od, lo, hi => rfl
  | j + 1, od, lo, hi => by
    by_cases h : lo < hi
    · rw [rvs_t h, rvs_t h, swp_map]
      exact rvs_map j _ _ _
    · rw [rvs_f h, rvs_f h]
theorem nxo_map {φ : Nat → Nat} (hφ : ∀ a b, φ a < φ b ↔ a < b) (n : Nat) (od : Nat → Nat) : nxo n (fun k => φ (od k)) = fun k => φ (nxo n od k) := by
  unfold nxo
  rw [fp_map hφ, fq_map hφ, swp_map, rvs_map]
theorem fp_ext {od od' : Nat → Nat} : ∀ p, (∀ k, k ≤ p → od k = od' k) → fp od p = fp od' p
  | 0, _ => rfl
  | p + 1, h => by
    unfold fp
    rw [h (p + 1) (Nat.le_refl _), h p (by omega), fp_ext p (fun k hk => h k (by omega))]
theorem fq_ext {od od' : Nat → Nat} {v : Nat} : ∀ q, (∀ k, k ≤ q → od k = od' k) → fq od v q = fq od' v q
  | 0, _ => rfl
  | q + 1, h => by
    unfold fq
    rw [h (q + 1) (Nat.le_refl _), fq_ext q (fun k hk => h k (by omega))]
theorem swp_ext {n p q : Nat} {od od' : Nat → Nat} (h : ∀ k, k < n → od k = od' k) (hp : p < n) (hq : q < n) : ∀ k, k < n → swp od p q k = swp od' p q k := fun k hk => by
  unfold swp
  rw [h p hp, h q hq, h k hk]
theorem rvs_ext {n : Nat} : ∀ (j : Nat) (od od' : Nat → Nat) (lo hi : Nat), hi < n → (∀ k, k < n → od k = od' k) → ∀ k, k < n → rvs j od lo hi k = rvs j od' lo hi k
  | 0, od, od', lo, hi, _, h => h
  | j + 1, od, od', lo, hi, hh, h => by
    by_cases hc : lo < hi
    · rw [rvs_t hc, rvs_t hc]
      exact rvs_ext j _ _ _ _ (by omega) (swp_ext h (by omega) hh)
    · rw [rvs_f hc, rvs_f hc]
      exact h
theorem nxo_ext {n : Nat} {od od' : Nat → Nat} (hn : 1 ≤ n) (h : ∀ k, k < n → od k = od' k) : ∀ k, k < n → nxo n od k = nxo n od' k := by
  have e1 : fp od (n - 1) = fp od' (n - 1) := fp_ext _ (fun k hk => h k (by omega))
  have h1 := fp_le od' (n - 1)
  have e2 : fq od (od (fp od (n - 1) - 1)) (n - 1) = fq od' (od' (fp od' (n - 1) - 1)) (n - 1) := by
    rw [e1, h _ (by omega)]
    exact fq_ext _ (fun k hk => h k (by omega))
  have h2 := fq_le od' (od' (fp od' (n - 1) - 1)) (n - 1)
  unfold nxo
  rw [e2, e1]
  exact rvs_ext n _ _ _ _ (by omega) (swp_ext h (by omega) (by omega))
theorem trm_ext {n : Nat} (hn : 1 ≤ n) : ∀ (j : Nat) (od od' : Nat → Nat), (∀ k, k < n → od k = od' k) → trm n j od → trm n j od'
  | 0, _, _, _, h => h
  | j + 1, od, od', h, ht => ⟨fun k hk => by rw [← h k hk]; exact ht.1 k hk, fun hf => trm_ext hn j _ _ (nxo_ext hn h) (ht.2 (by rw [fp_ext _ (fun k hk => h k (by omega))]; exact hf))⟩
theorem od0_lt {f : Nat} : ∀ a b, od0 f a < od0 f b ↔ a < b := fun a b => by
  unfold od0
  split <;> split <;> omega
theorem trm_tb {n f : Nat} (hn : 1 ≤ n) (hn5 : n ≤ 5) (hf : f ≤ n) : ∀ (j i : Nat), i < (PT n).length → (PT n).length ≤ i + j → trm n j (fun k => od0 f (tbf n i k))
  | 0, i, h1, h2 => absurd h2 (by omega)
  | j + 1, i, h1, h2 => by
    obtain ⟨a, b⟩ := tb_at hn5 h1
    refine ⟨fun k hk => ?_, fun hp => ?_⟩
    · have := (b k hk).1
      show od0 f (tbf n i k) < 6
      unfold od0
      split <;> omega
    · rw [fp_map od0_lt] at hp
      have hl := a.mp hp
      refine trm_ext hn j (fun k => od0 f (tbf n (i + 1) k)) _ (fun k hk => ?_) (trm_tb hn hn5 hf j (i + 1) hl (by omega))
      rw [nxo_map od0_lt]
      show od0 f (tbf n (i + 1) k) = od0 f (nxo n (tbf n i) k)
      rw [(b k hk).2 hl]
theorem trm_od0 : ∀ n, 1 ≤ n → n ≤ 5 → ∀ f, f ≤ n → trm n 130 (od0 f) := fun n h1 h5 f hf => by
  obtain ⟨a, b⟩ := tb_one n h5 h1
  have := tb_len n h5
  exact trm_ext h1 130 _ _ (fun k hk => by rw [b k hk]) (trm_tb h1 h5 hf 130 0 a (by omega))
theorem ev_X1_round {w : WE} {A : Hp} {m : MT} {S : ST} {f hour q : Int32} (hm : MR w A m) (hS : MS m S) : Ev w mX1_round 5 0 0 [.ref (mb w), .int f, .int hour, .int q] A (QM w A (fun v m' => v = some (.int (sp_round S f hour q)) ∧ MS m' S)) := ev_X1_round_open trm_od0 hm hS
