/-! ROUNDS: trying with pruning finds what all orders in turn find -/
set_option maxRecDepth 100000
def bst (O : List Nat → Nat) (st : Nat × List Nat) (l : List Nat) : Nat × List Nat := if O l < st.1 then (O l, l) else st
def exts (isl f : Nat) : Nat → List Nat → List (List Nat)
  | 0, p => [p]
  | j + 1, p => (List.range' 0 isl).flatMap (fun x => if x = f ∨ x ∈ p then [] else exts isl f j (p ++ [x]))
/-- the class's trying: C is when one is there -/
def tr (isl f : Nat) (C : Nat → Nat → Nat → Nat) : Nat → List Nat → Nat → Nat → Nat × List Nat → Nat × List Nat
  | 0, p, _, t, st => if t < st.1 then (t, p) else st
  | j + 1, p, a, t, st => (List.range' 0 isl).foldl (fun st x => if x = f ∨ x ∈ p then st else if C a t x + 1 < st.1 then tr isl f C j (p ++ [x]) x (C a t x + 1) st else st) st
def trb (isl f : Nat) (C : Nat → Nat → Nat → Nat) (j : Nat) (p : List Nat) (a t : Nat) (st : Nat × List Nat) (x : Nat) : Nat × List Nat := if x = f ∨ x ∈ p then st else if C a t x + 1 < st.1 then tr isl f C j (p ++ [x]) x (C a t x + 1) st else st
theorem tr_s {isl f : Nat} {C : Nat → Nat → Nat → Nat} {j : Nat} {p : List Nat} {a t : Nat} {st : Nat × List Nat} : tr isl f C (j + 1) p a t st = (List.range' 0 isl).foldl (trb isl f C j p a t) st := by
  conv => lhs; unfold tr
  rfl
theorem bst_le {O : List Nat → Nat} {st : Nat × List Nat} {l : List Nat} : (bst O st l).1 ≤ st.1 := by
  unfold bst
  split
  · exact Nat.le_of_lt (by assumption)
  · exact Nat.le_refl _
theorem bstl_le {O : List Nat → Nat} : ∀ (L : List (List Nat)) (st : Nat × List Nat), (L.foldl (bst O) st).1 ≤ st.1
  | [], st => Nat.le_refl _
  | l :: L, st => Nat.le_trans (bstl_le L _) bst_le
theorem bstl_no {O : List Nat → Nat} : ∀ (L : List (List Nat)) (st : Nat × List Nat), (∀ l ∈ L, st.1 ≤ O l) → L.foldl (bst O) st = st
  | [], st, _ => rfl
  | l :: L, st, h => by
    have e : bst O st l = st := if_neg (by have := h l (List.mem_cons_self ..); omega)
    rw [List.foldl_cons, e]
    exact bstl_no L st (fun l hl => h l (List.mem_cons_of_mem _ hl))
theorem fold_flat {O : List Nat → Nat} {F : Nat → List (List Nat)} : ∀ (X : List Nat) (st : Nat × List Nat), (X.flatMap F).foldl (bst O) st = X.foldl (fun st x => (F x).foldl (bst O) st) st
  | [], st => rfl
  | x :: X, st => by
    rw [List.flatMap_cons, List.foldl_append, List.foldl_cons]
    exact fold_flat X _
/-- what extends p by j -/
def Ext (p l : List Nat) (j : Nat) : Prop := l.length = p.length + j ∧ ∀ k, k < p.length → l.getD k 0 = p.getD k 0
theorem getD_app1 {p : List Nat} {x k : Nat} (h : k < p.length) : (p ++ [x]).getD k 0 = p.getD k 0 := by
  rw [List.getD_eq_getElem?_getD, List.getD_eq_getElem?_getD, List.getElem?_append_left h]
theorem getD_app2 {p : List Nat} {x : Nat} : (p ++ [x]).getD p.length 0 = x := by
  rw [List.getD_eq_getElem?_getD, List.getElem?_append_right (Nat.le_refl _), Nat.sub_self]
  rfl
theorem exts_ext {isl f : Nat} : ∀ (j : Nat) (p l : List Nat), l ∈ exts isl f j p → Ext p l j
  | 0, p, l, h => by
    have e : l = p := by simpa [exts] using h
    subst e
    exact ⟨rfl, fun _ _ => rfl⟩
  | j + 1, p, l, h => by
    unfold exts at h
    obtain ⟨x, hx, hl⟩ := List.mem_flatMap.mp h
    split at hl
    · cases hl
    · obtain ⟨e1, e2⟩ := exts_ext j _ l hl
      rw [List.length_append] at e1 e2
      refine ⟨by rw [e1]; show p.length + 1 + j = _; omega, fun k hk => ?_⟩
      rw [e2 k (by show k < p.length + 1; omega), getD_app1 hk]
theorem exts_at {isl f j : Nat} {p l : List Nat} {x : Nat} (h : l ∈ exts isl f j (p ++ [x])) : l.getD p.length 0 = x := by
  obtain ⟨e1, e2⟩ := exts_ext j _ l h
  rw [e2 p.length (by rw [List.length_append]; show _ < _ + 1; omega), getD_app2]
section RND
variable {isl f : Nat} {B C : Nat → Nat → Nat → Nat}
def oL (B : Nat → Nat → Nat → Nat) (isl j k a t : Nat) (l : List Nat) : Nat := ovb B (fun k => l.getD k 0) isl j k a t
theorem ovb_ge (hB : ∀ a t x, t ≤ 2000 → t ≤ B a t x) {od : Nat → Nat} : ∀ (j k a t : Nat), t ≤ 2000 → t ≤ ovb B od isl j k a t
  | 0, k, a, t, _ => Nat.le_refl _
  | j + 1, k, a, t, h => by
    unfold ovb
    split
    · split
      · omega
      · split
        · omega
        · have h1 := hB a t (od k) h
          have := ovb_ge hB (od := od) j (k + 1) (od k) (B a t (od k) + 1) (by omega)
          omega
    · exact Nat.le_refl _
theorem tr_late (hC : ∀ a t x, t ≤ 2000 → C a t x = min (B a t x) 2001) (hB : ∀ a t x, t ≤ 2000 → t ≤ B a t x) {j : Nat} {p : List Nat} {a : Nat} {st : Nat × List Nat} (hs : st.1 ≤ 2001) : tr isl f C (j + 1) p a 2000 st = st := by
  rw [tr_s]
  have : ∀ X : List Nat, X.foldl (trb isl f C j p a 2000) st = st := by
    intro X
    induction X with
    | nil => rfl
    | cons x X ih =>
      rw [List.foldl_cons]
      have e : trb isl f C j p a 2000 st x = st := by
        unfold trb
        split
        · rfl
        · rw [if_neg]
          rw [hC a 2000 x (Nat.le_refl _)]
          have := hB a 2000 x (Nat.le_refl _)
          omega
      rw [e]
      exact ih
  exact this _
theorem tr_fold (hC : ∀ a t x, t ≤ 2000 → C a t x = min (B a t x) 2001) (hB : ∀ a t x, t ≤ 2000 → t ≤ B a t x) {O : List Nat → Nat} : ∀ (j : Nat) (p : List Nat) (a t : Nat) (st : Nat × List Nat), p.length + j + 1 = isl → (t ≤ 1999 ∨ (j = 0 ∧ t ≤ 2000)) → st.1 ≤ 2001 → (∀ l, Ext p l j → O l = oL B isl j p.length a t l) → tr isl f C j p a t st = (exts isl f j p).foldl (bst O) st
  | 0, p, a, t, st, hl, ht, hs, hO => by
    have e : O p = t := hO p ⟨rfl, fun _ _ => rfl⟩
    show (if t < st.1 then (t, p) else st) = bst O st p
    unfold bst
    rw [e]
  | j + 1, p, a, t, st, hl, ht, hs, hO => by
    have ht9 : t ≤ 1999 := by omega
    rw [tr_s]
    unfold exts
    rw [fold_flat]
    have key : ∀ (st : Nat × List Nat) (x : Nat), st.1 ≤ 2001 → trb isl f C j p a t st x = (if x = f ∨ x ∈ p then [] else exts isl f j (p ++ [x])).foldl (bst O) st := by
      intro st x hs
      unfold trb
      by_cases hx : x = f ∨ x ∈ p
      · rw [if_pos hx, if_pos hx]
        rfl
      · rw [if_neg hx, if_neg hx]
        have hlen : (p ++ [x]).length = p.length + 1 := by rw [List.length_append]; rfl
        have hOx : ∀ l, Ext (p ++ [x]) l j → O l = ovb B (fun k => l.getD k 0) isl (j + 1) p.length a t ∧ l.getD p.length 0 = x := fun l hE => by
          obtain ⟨e1, e2⟩ := hE
          rw [hlen] at e1 e2
          refine ⟨hO l ⟨by omega, fun k hk => ?_⟩, ?_⟩
          · rw [e2 k (by omega), getD_app1 hk]
          · rw [e2 p.length (by omega), getD_app2]
        rw [hC a t x (by omega)]
        by_cases h1 : 2000 < B a t x + 1 ∨ (B a t x + 1 = 2000 ∧ p.length + 2 < isl)
        · have h9 : ∀ l ∈ exts isl f j (p ++ [x]), O l = 9999 := fun l hl => by
            obtain ⟨q1, q2⟩ := hOx l (exts_ext j _ l hl)
            rw [q1]
            exact ovb_9 (by omega) (by show 2000 < B a t (l.getD p.length 0) + 1 ∨ _; rw [q2]; exact h1)
          rw [bstl_no _ st (fun l hl => by rw [h9 l hl]; omega)]
          rcases h1 with h1 | ⟨h1, h2⟩
          · rw [if_neg (by omega)]
          · split
            · have hj : ∃ i, j = i + 1 := ⟨j - 1, by omega⟩
              obtain ⟨i, rfl⟩ := hj
              rw [show min (B a t x) 2001 + 1 = 2000 by omega]
              exact tr_late hC hB hs
            · rfl
        · have hn1 : ¬ 2000 < B a t x + 1 := fun z => h1 (Or.inl z)
          have hn2 : ¬ (B a t x + 1 = 2000 ∧ p.length + 2 < isl) := fun z => h1 (Or.inr z)
          have em : min (B a t x) 2001 = B a t x := by omega
          have hOs : ∀ l, Ext (p ++ [x]) l j → O l = oL B isl j (p ++ [x]).length x (B a t x + 1) l := fun l hE => by
            obtain ⟨q1, q2⟩ := hOx l hE
            rw [q1, ovb_s (by omega) (by show ¬ 2000 < B a t (l.getD p.length 0) + 1; rw [q2]; exact hn1) (by show ¬ (B a t (l.getD p.length 0) + 1 = 2000 ∧ _); rw [q2]; exact hn2)]
            unfold oL
            rw [hlen, q2]
          rw [em]
          by_cases hc : B a t x + 1 < st.1
          · rw [if_pos hc]
            refine tr_fold hC hB j (p ++ [x]) x _ st (by rw [hlen]; omega) ?_ hs hOs
            by_cases hj : j = 0
            · exact Or.inr ⟨hj, by omega⟩
            · left
              by_cases h2 : B a t x + 1 = 2000
              · exact absurd ⟨h2, by omega⟩ hn2
              · omega
          · rw [if_neg hc]
            refine (bstl_no _ st (fun l hl => ?_)).symm
            rw [hOs l (exts_ext j _ l hl)]
            have := ovb_ge hB (isl := isl) (od := fun k => l.getD k 0) j (p ++ [x]).length x (B a t x + 1) (by omega)
            unfold oL
            omega
    have all : ∀ (X : List Nat) (st : Nat × List Nat), st.1 ≤ 2001 → X.foldl (trb isl f C j p a t) st = X.foldl (fun st x => (if x = f ∨ x ∈ p then [] else exts isl f j (p ++ [x])).foldl (bst O) st) st := by
      intro X
      induction X with
      | nil => intro st _; rfl
      | cons x X ih =>
        intro st hs
        rw [List.foldl_cons, List.foldl_cons, key st x hs]
        exact ih _ (Nat.le_trans (bstl_le _ _) hs)
    exact all _ st hs
end RND
/-! the reference's orders as lists -/
theorem exts_tb : ∀ n, n ≤ 5 → 1 ≤ n → ∀ f, f ≤ n → exts (n + 1) f n [] = (PT n).map (fun l => l.map (od0 f)) := by decide +kernel
def lod (f : Nat) (l : List Nat) : List Nat := l.map (od0 f)
theorem tb_ln : ∀ n, n ≤ 5 → (PT n).all (fun l => decide (l.length = n)) = true := by decide +kernel
theorem ovb_ext {B : Nat → Nat → Nat → Nat} {isl : Nat} {od od' : Nat → Nat} : ∀ (j k a t : Nat), (∀ i, i < k + j → od i = od' i) → ovb B od isl j k a t = ovb B od' isl j k a t
  | 0, k, a, t, h => rfl
  | j + 1, k, a, t, h => by
    unfold ovb
    rw [h k (by omega), ovb_ext j (k + 1) _ _ (fun i hi => h i (by omega))]
theorem lod_at {n f i : Nat} (hi : i < (PT n).length) (hn : n ≤ 5) {k : Nat} (hk : k < n) : (lod f ((PT n)[i])).getD k 0 = od0 f (tbf n i k) := by
  have hl : (PT n)[i].length = n := of_decide_eq_true (List.all_eq_true.mp (tb_ln n hn) _ (List.getElem_mem hi))
  unfold lod tbf
  rw [List.getD_eq_getElem?_getD, List.getElem?_map, List.getD_eq_getElem?_getD, List.getD_eq_getElem?_getD, List.getElem?_eq_getElem (by rw [hl]; exact hk), List.getElem?_eq_getElem hi]
  show od0 f _ = od0 f (((PT n)[i])[k]?.getD 0)
  rw [List.getElem?_eq_getElem (by rw [hl]; exact hk)]
  rfl
/-- the two folds hold the same -/
def Sam (n : Nat) (u : Nat × (Nat → Nat)) (v : Nat × List Nat) : Prop := (u.1 = 9999 ∧ v.1 = 2001) ∨ (u.1 = v.1 ∧ v.1 ≤ 2000 ∧ ∀ k, k < n → v.2.getD k 0 = u.2 k)
theorem Sam.step {n : Nat} {O : (Nat → Nat) → Nat} {s : Nat} {b : Nat → Nat} {v : Nat × List Nat} {od : Nat → Nat} {l : List Nat} (h : Sam n (s, b) v) (hO : O od ≤ 2000 ∨ O od = 9999) (hl : ∀ k, k < n → l.getD k 0 = od k) {O' : List Nat → Nat} (hO' : O' l = O od) : Sam n (if O od < s then O od else s, if O od < s then od else b) (bst O' v l) := by
  unfold bst
  rw [hO']
  rcases h with ⟨h1, h2⟩ | ⟨h1, h2, h3⟩
  · have h1' : s = 9999 := h1
    subst h1'
    rcases hO with hO | hO
    · rw [if_pos (show O od < 9999 by omega), if_pos (show O od < 9999 by omega), if_pos (by omega)]
      exact Or.inr ⟨rfl, hO, hl⟩
    · rw [if_neg (by omega), if_neg (by omega), if_neg (by omega)]
      exact Or.inl ⟨rfl, h2⟩
  · have h1' : s = v.1 := h1
    subst h1'
    by_cases hc : O od < v.1
    · rw [if_pos hc, if_pos hc, if_pos hc]
      exact Or.inr ⟨rfl, by show O od ≤ 2000; omega, hl⟩
    · rw [if_neg hc, if_neg hc, if_neg hc]
      exact Or.inr ⟨rfl, h2, h3⟩
theorem rdl_fold {n f : Nat} (hn : 1 ≤ n) (hn5 : n ≤ 5) {O : (Nat → Nat) → Nat} (hO : ∀ od, O od ≤ 2000 ∨ O od = 9999) (hext : ∀ od od', (∀ k, k < n → od k = od' k) → O od = O od') {O' : List Nat → Nat} (hO' : ∀ l, O' l = O (fun k => l.getD k 0)) : ∀ (j i : Nat) (od : Nat → Nat) (s : Nat) (b : Nat → Nat) (v : Nat × List Nat), i < (PT n).length → (PT n).length ≤ i + j → (∀ k, k < n → od k = od0 f (tbf n i k)) → Sam n (s, b) v → Sam n (rdl n O j od s b) ((((PT n).drop i).map (lod f)).foldl (bst O') v)
  | 0, i, od, s, b, v, h1, h2, _, _ => absurd h2 (by omega)
  | j + 1, i, od, s, b, v, h1, h2, ho, hs => by
    obtain ⟨t1, t2⟩ := tb_at hn5 h1
    have efp : fp od (n - 1) = fp (tbf n i) (n - 1) := by
      rw [fp_ext (n - 1) (fun k hk => ho k (by omega))]
      exact fp_map od0_lt (tbf n i) (n - 1)
    rw [List.drop_eq_getElem_cons h1, List.map_cons, List.foldl_cons]
    have hl : ∀ k, k < n → (lod f ((PT n)[i])).getD k 0 = od k := fun k hk => by rw [lod_at h1 hn5 hk, ho k hk]
    have hst := hs.step (O := O) (od := od) (hO od) hl (O' := O') (by rw [hO']; exact hext _ _ hl)
    by_cases hp : 0 < fp od (n - 1)
    · rw [rdl_t hp]
      have hlt := t1.mp (by rw [← efp]; exact hp)
      refine rdl_fold hn hn5 hO hext hO' j (i + 1) _ _ _ _ hlt (by omega) (fun k hk => ?_) hst
      rw [nxo_ext hn ho k hk, nxo_map od0_lt]
      show od0 f (nxo n (tbf n i) k) = _
      rw [(t2 k hk).2 hlt]
    · rw [rdl_f hp]
      have hge : ¬ i + 1 < (PT n).length := fun z => hp (by rw [efp]; exact t1.mpr z)
      rw [List.drop_eq_nil_of_le (by omega)]
      exact hst
theorem ovb_or {B : Nat → Nat → Nat → Nat} {od : Nat → Nat} {isl : Nat} : ∀ (j k a t : Nat), t ≤ 2000 → ovb B od isl j k a t ≤ 2000 ∨ ovb B od isl j k a t = 9999
  | 0, k, a, t, h => Or.inl h
  | j + 1, k, a, t, h => by
    unfold ovb
    split
    · split
      · exact Or.inr rfl
      · split
        · exact Or.inr rfl
        · exact ovb_or j _ _ _ (by omega)
    · exact Or.inl h
/-- the class's trying and the reference's orders -/
theorem tr_rdS {S : ST} {f h : Nat} {C : Nat → Nat → Nat → Nat} (h2 : 2 ≤ S.1) (h6 : S.1 ≤ 6) (hf : f < S.1) (hh : h ≤ 1999) (hC : ∀ a t x, t ≤ 2000 → C a t x = min (bfS S false a t x) 2001) (hB : ∀ a t x, t ≤ 2000 → t ≤ bfS S false a t x) {b0 : List Nat} : Sam (S.1 - 1) (rdS S f h) (tr S.1 f C (S.1 - 1) [] f h (2001, b0)) := by
  have e := tr_fold (isl := S.1) (f := f) (C := C) (B := fun f t x => bfS S false f t x) hC hB (O := oL (fun f t x => bfS S false f t x) S.1 (S.1 - 1) 0 f h) (S.1 - 1) [] f h (2001, b0) (by show 0 + (S.1 - 1) + 1 = S.1; omega) (Or.inl hh) (Nat.le_refl _) (fun l _ => rfl)
  rw [e]
  have en : S.1 - 1 + 1 = S.1 := by omega
  have et := exts_tb (S.1 - 1) (by omega) (by omega) f (by omega)
  rw [en] at et
  rw [et]
  obtain ⟨a, b⟩ := tb_one (S.1 - 1) (by omega) (by omega)
  have := tb_len (S.1 - 1) (by omega)
  have := rdl_fold (n := S.1 - 1) (f := f) (by omega) (by omega) (O := OS S f h) (fun od => ovb_or _ _ _ _ (by omega)) (fun od od' ho => ovb_ext _ _ _ _ (fun i hi => ho i (by omega))) (O' := oL (fun f t x => bfS S false f t x) S.1 (S.1 - 1) 0 f h) (fun l => rfl) 130 0 (od0 f) 9999 (fun _ => 0) (2001, b0) a (by omega) (fun k hk => by rw [b k hk]) (Or.inl ⟨rfl, rfl⟩)
  exact this
