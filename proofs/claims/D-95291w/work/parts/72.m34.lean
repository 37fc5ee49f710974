/-! THE CLASS: levels and crossings are laid -/
set_option maxRecDepth 100000
def ec (o : Option Nat) : Nat := o.getD 2001
theorem va_us {α : Type} {f : Nat → α} {k : Nat} {v : α} : va_up f k v k = v := by simp [va_up]
theorem va_un {α : Type} {f : Nat → α} {k j : Nat} {v : α} (h : j ≠ k) : va_up f k v j = f j := by simp [va_up, h]
theorem ec_le {ms : List Mo} {q : Rd} {tk h : Nat} (hh : h ≤ 2000) : ec (stt ms q tk h) ≤ 2001 := by
  cases e : stt ms q tk h with
  | none => exact Nat.le_refl _
  | some s =>
    have := stt_le hh e
    show s ≤ 2001
    omega
theorem ec_oI {o : Option Nat} (h : ec o = 2001) (h2 : ∀ s, o = some s → s ≤ 2000) : oI o = -9 := by
  cases o with
  | none => rfl
  | some s => exact absurd (h2 s rfl) (by have : s = 2001 := h; omega)
theorem ec_ne {o : Option Nat} (h : ¬ ec o = 2001) : oI o = nI (ec o) := by
  cases o with
  | none => exact absurd rfl h
  | some s => rfl
/-- the levels are laid; the crossings of a road, of all -/
def LvX (x : XT) (ms : List Mo) : Prop := ∀ h, h < 2000 → x.2.1 3 h = nI (lvl ms h)
def StX (x : XT) (ms : List Mo) (herd : Bool) (r : Nat) (q : Rd) : Prop := ∀ t, t ≤ 2000 → x.2.1 (5 + r) t = nI (ec (stt ms q (tkO herd q) t))
def JX (x : XT) (S : ST) (herd : Bool) : Prop := ∀ r q, S.2.2.1[r]? = some q → StX x S.2.1 herd r q
/-- the class's world with another row k -/
abbrev xr (x : XT) (k : Nat) (f : Nat → Int32) : XT := (x.1, va_up x.2.1 k f, x.2.2)
theorem xr_e {w : WE} {A : Hp} {x : XT} {S : ST} (h : XS w A x S) (k : Nat) : XS w A (xr x k (x.2.1 k)) S := by
  have e : xr x k (x.2.1 k) = x := by
    show (x.1, va_up x.2.1 k (x.2.1 k), x.2.2) = x
    rw [vu_self]
  rw [e]
  exact h
set_option maxHeartbeats 4000000 in
theorem lp_X0_layLevels {w : WE} {A0 : Hp} {x : XT} {S : ST} : ∀ (j i : Nat) (A : Hp) (f : Nat → Int32), i + j = 2000 → (∀ h, h < i → f h = nI (lvl S.2.1 h)) → XS w A (xr x 3 f) S → Fx w A0 A → Rn w mX0_layLevels (rmX 4 0 0) (ZX w (fun v A' => v = none ∧ (fun A' => ∃ f : Nat → Int32, XS w A' (xr x 3 f) S ∧ Fx w A0 A' ∧ ∀ h, h < 2000 → f h = nI (lvl S.2.1 h)) A') 0 0) 0 0 A 2 [some (.ref (wb w)), some (.int (nI i))] [] := by
  intro j
  induction j with
  | zero =>
    intro i A f hij hf hx hF
    refine r_iload_n 3 dX0_layLevels_2 rfl rfl lo1 ?_
    refine r_sipush 6 dX0_layLevels_3 rfl si_2000 ?_
    first | refine r_icmp_geN 26 9 dX0_layLevels_6 rfl (by decide) (by omega) (by omega) (fun hc6 => ?_) (fun hc6 => ?_) | refine r_icmp_ge 26 9 dX0_layLevels_6 rfl (by decide) (fun hc6 => ?_) (fun hc6 => ?_)
    · exact r_vret dX0_layLevels_26 rfl (Nat.le_refl _) (Nat.le_refl _) ⟨rfl, f, hx, hF, fun h hh => hf h (by omega)⟩
    · exact absurd hc6 (by omega)
  | succ j ih =>
    intro i A f hij hf hx hF
    refine r_iload_n 3 dX0_layLevels_2 rfl rfl lo1 ?_
    refine r_sipush 6 dX0_layLevels_3 rfl si_2000 ?_
    first | refine r_icmp_geN 26 9 dX0_layLevels_6 rfl (by decide) (by omega) (by omega) (fun hc6 => ?_) (fun hc6 => ?_) | refine r_icmp_ge 26 9 dX0_layLevels_6 rfl (by decide) (fun hc6 => ?_) (fun hc6 => ?_)
    · exact absurd hc6 (by omega)
    · refine r_aload_n 10 dX0_layLevels_9 rfl rfl lo0 ?_
      refine r_get 13 dX0_layLevels_10 rfl g_X0_31_0 hx.t lo4 ?_
      refine r_iload_n 14 dX0_layLevels_13 rfl rfl lo1 ?_
      refine r_aload_n 15 dX0_layLevels_14 rfl rfl lo0 ?_
      refine r_iload_n 16 dX0_layLevels_15 rfl rfl lo1 ?_
      refine r_cV1 19 dX0_layLevels_16 rfl sV_X0_135_0 hx.t (by rfl) (ev_X0_levelIn hx (by omega)) ?_
      refine rx_iast (kk := 3) (N := 2000) 20 dX0_layLevels_19 rfl hx hF (Or.inl rfl) _ rfl rfl (by omega) (by decide) (fun A hx hF => ?_)
      rw [bx_uu] at hx
      refine r_iinc 23 dX0_layLevels_20 rfl lo1 inc1 so1 rfl ?_
      refine r_goto 2 dX0_layLevels_23 (by decide) ?_
      refine ih (i + 1) A _ (by omega) (fun h hh => ?_) hx hF
      show upd f i _ h = _
      by_cases e : h = i
      · subst e
        rw [upd_s]
      · rw [upd_n e]
        exact hf h (by omega)

set_option maxHeartbeats 4000000 in
theorem ev_X0_layLevels {w : WE} {A : Hp} {x : XT} {S : ST} (hx : XS w A x S) : EvP w mX0_layLevels 4 0 0 [.ref (wb w)] A none (fun A' => ∃ f : Nat → Int32, XS w A' (xr x 3 f) S ∧ Fx w A A' ∧ ∀ h, h < 2000 → f h = nI (lvl S.2.1 h)) := by
  refine Ev.mk 1 [some (.ref (wb w)), none] rfl plX0 (Nat.le_of_ble_eq_true rfl) ?_
  refine r_iconst 1 dX0_layLevels_0 rfl ic_0 ?_
  refine r_istore_n 2 dX0_layLevels_1 rfl rfl so1 rfl ?_
  exact lp_X0_layLevels 2000 0 A (x.2.1 3) (by omega) (fun h hh => absurd hh (by omega)) (xr_e hx 3) Fx.rf

set_option maxHeartbeats 4000000 in
theorem lp_X0_layStarts {w : WE} {A0 : Hp} {x : XT} {S : ST} {r : Nat} {q : Rd} {herd : Bool} (hok : StOk S) (hq : S.2.2.1[r]? = some q) (hlv : LvX x S.2.1) : ∀ (h1 s : Nat) (A : Hp) (f : Nat → Int32), h1 ≤ 2000 → s = rn S.2.1 q (2000 - h1) → (∀ t, h1 ≤ t → t ≤ 2000 → f t = nI (ec (stt S.2.1 q (tkO herd q) t))) → XS w A (xr x (5 + r) f) S → Fx w A0 A → Rn w mX0_layStarts (rmX 3 0 0) (ZX w (fun v A' => v = none ∧ (fun A' => ∃ f : Nat → Int32, XS w A' (xr x (5 + r) f) S ∧ Fx w A0 A' ∧ ∀ t, t ≤ 2000 → f t = nI (ec (stt S.2.1 q (tkO herd q) t))) A') 0 0) 0 0 A 26 [some (.ref (wb w)), some (.ref (x.2.2.2.2.1 r)), some (.int (bI herd)), some (.ref (wb w + (5 + r))), some (.int (nI s)), some (.int (nI h1 + Int32.ofInt (-1)))] [] := by
  have hr10 : r < 10 := by
    have := (List.getElem?_eq_some_iff.mp hq).1
    have := hok.2.2.2.1
    omega
  have hrk := hok.2.2.2.2 q (List.mem_of_getElem? hq)
  have hk := hrk.1
  have h0 : (q.1 = 0 → q.2.2.2.2.2 = 0) ∧ RdOk S.1 q := ⟨(hok.1.2 q (List.mem_of_getElem? hq)).2, hrk⟩
  have htk := tkO_le (herd := herd) hrk
  have xLr : xL (5 + r) = 2001 := by
    unfold xL
    rw [if_neg (by omega), if_pos (by omega)]
  intro h1
  induction h1 with
  | zero =>
    intro s A f hh hs hf hx hF
    refine r_iload 28 dX0_layStarts_26 rfl lo5 ?_
    refine r_if_lt 88 31 dX0_layStarts_28 rfl (by decide) (fun hc28 => ?_) (fun hc28 => ?_)
    · exact r_vret dX0_layStarts_88 rfl (Nat.le_refl _) (Nat.le_refl _) ⟨rfl, f, hx, hF, fun t ht => hf t (Nat.zero_le _) ht⟩
    · exact absurd (by decide) hc28
  | succ h ih =>
    intro s A f hh hs hf hx hF
    rw [show nI (h + 1) + Int32.ofInt (-1) = nI h from incm1]
    have hrs := rn_step (ms := S.2.1) (q := q) (h := h) (by omega)
    have hss := stt_step (ms := S.2.1) (q := q) (tk := tkO herd q) (h := h) (by omega)
    have hs2 := rn_le S.2.1 q (2000 - (h + 1))
    rw [← hs] at hrs hs2
    have hb := ec_le (ms := S.2.1) (q := q) (tk := tkO herd q) (h := h + 1) (by omega)
    have hrd := hx.rd r q hq
    have hl := hx.lvl h
    have hg := hgt_le hrk h
    have hl3 : va_up x.2.1 (5 + r) f 3 h = nI (lvl S.2.1 h) := by
      rw [va_un (by omega)]
      exact hlv h (by omega)
    have hrow : va_up x.2.1 (5 + r) f (5 + r) (h + 1) = nI (ec (stt S.2.1 q (tkO herd q) (h + 1))) := by
      rw [va_us]
      exact hf (h + 1) (by omega) (by omega)
    refine r_iload 28 dX0_layStarts_26 rfl lo5 ?_
    first | refine r_if_ltN 88 31 dX0_layStarts_28 rfl (by decide) (by omega) (fun hc28 => ?_) (fun hc28 => ?_) | refine r_if_lt 88 31 dX0_layStarts_28 rfl (by decide) (fun hc28 => ?_) (fun hc28 => ?_)
    · exact absurd hc28 (by omega)
    · refine r_aload_n 32 dX0_layStarts_31 rfl rfl lo0 ?_
      refine r_get 35 dX0_layStarts_32 rfl g_X0_31_0 hx.t lo4 ?_
      refine r_iload 37 dX0_layStarts_35 rfl lo5 ?_
      refine r_ialdv 38 dX0_layStarts_37 rfl hx.a3 _ rfl hl3 (by omega) (by decide) ?_
      refine r_aload_n 39 dX0_layStarts_38 rfl rfl lo1 ?_
      refine r_iload 41 dX0_layStarts_39 rfl lo5 ?_
      refine rR1 44 dX0_layStarts_41 rfl sV_X0_170_3 sU_X0_170_4 sU_X0_170_5 hrd.2 hk (by rfl) (by rfl) (by rfl) (ev_R_h0 hrd.2 h0 (by omega)) (ev_R_h1 hrd.2 (by omega)) (ev_R_h2 hrd.2 h0 (by omega)) ?_
      first | refine r_icmp_gtN 54 47 dX0_layStarts_44 rfl (by decide) (by omega) (by omega) (fun hc44 => ?_) (fun hc44 => ?_) | refine r_icmp_gt 54 47 dX0_layStarts_44 rfl (by decide) (fun hc44 => ?_) (fun hc44 => ?_)
      · rw [if_neg (by unfold isD; simp; omega)] at hrs
        refine r_iconst 55 dX0_layStarts_54 rfl ic_0 ?_
        refine r_istore 57 dX0_layStarts_55 rfl so4 rfl ?_
        refine r_aload_n 58 dX0_layStarts_57 rfl rfl lo3 ?_
        refine r_iload 60 dX0_layStarts_58 rfl lo5 ?_
        refine r_iload 62 dX0_layStarts_60 rfl lo4 ?_
        refine r_aload_n 63 dX0_layStarts_62 rfl rfl lo1 ?_
        refine r_iload_n 64 dX0_layStarts_63 rfl rfl lo2 ?_
        refine rR1 67 dX0_layStarts_64 rfl sV_X0_184_3 sU_X0_184_4 sU_X0_184_5 hrd.2 hk (by rfl) (by rfl) (by rfl) (fun _ => ev_X6_takes hrd.2 hk) (fun _ => ev_X6_takes hrd.2 hk) (fun _ => ev_X6_takes hrd.2 hk) ?_
        first | refine r_icmp_ltN 75 70 dX0_layStarts_67 rfl (by decide) (by omega) (by omega) (fun hc67 => ?_) (fun hc67 => ?_) | refine r_icmp_lt 75 70 dX0_layStarts_67 rfl (by decide) (fun hc67 => ?_) (fun hc67 => ?_)
        · refine r_aload_n 76 dX0_layStarts_75 rfl rfl lo3 ?_
          refine r_iload 78 dX0_layStarts_76 rfl lo5 ?_
          refine r_iconst 79 dX0_layStarts_78 rfl ic_1 ?_
          first | refine r_iaddN 80 dX0_layStarts_79 rfl ?_ | refine r_iadd 80 dX0_layStarts_79 rfl ?_
          refine r_ialdv 81 dX0_layStarts_80 rfl (hx.row hr10) _ rfl hrow (by omega) (by decide) ?_
          refine rx_iast (kk := (5 + r)) (N := 2001) 82 dX0_layStarts_81 rfl hx hF (Or.inr (by omega)) _ rfl xLr (by omega) (by decide) (fun A hx hF => ?_)
          rw [bx_uu, show (xr x (5 + r) f).2.1 (5 + r) = f from va_us] at hx
          refine r_iinc 85 dX0_layStarts_82 rfl lo5 rfl so5 rfl ?_
          refine r_goto 26 dX0_layStarts_85 (by decide) ?_
          refine ih _ A _ (by omega) (by first | exact hrs.symm | omega) (fun t h1 h2 => ?_) hx hF
          by_cases e : t = h
          · subst e
            rw [upd_s, hss]
            first | (rw [if_pos (by omega)]; rfl) | rw [if_neg (by omega)]
          · rw [upd_n e]
            exact hf t (by omega) h2
        · refine r_iload 72 dX0_layStarts_70 rfl lo5 ?_
          refine r_goto 81 dX0_layStarts_72 (by decide) ?_
          refine rx_iast (kk := (5 + r)) (N := 2001) 82 dX0_layStarts_81 rfl hx hF (Or.inr (by omega)) _ rfl xLr (by omega) (by decide) (fun A hx hF => ?_)
          rw [bx_uu, show (xr x (5 + r) f).2.1 (5 + r) = f from va_us] at hx
          refine r_iinc 85 dX0_layStarts_82 rfl lo5 rfl so5 rfl ?_
          refine r_goto 26 dX0_layStarts_85 (by decide) ?_
          refine ih _ A _ (by omega) (by first | exact hrs.symm | omega) (fun t h1 h2 => ?_) hx hF
          by_cases e : t = h
          · subst e
            rw [upd_s, hss]
            first | (rw [if_pos (by omega)]; rfl) | rw [if_neg (by omega)]
          · rw [upd_n e]
            exact hf t (by omega) h2
      · rw [if_pos (by unfold isD; exact decide_eq_true hc44)] at hrs
        refine r_iload 49 dX0_layStarts_47 rfl lo4 ?_
        refine r_iconst 50 dX0_layStarts_49 rfl ic_1 ?_
        first | refine r_iaddN 51 dX0_layStarts_50 rfl ?_ | refine r_iadd 51 dX0_layStarts_50 rfl ?_
        refine r_goto 55 dX0_layStarts_51 (by decide) ?_
        refine r_istore 57 dX0_layStarts_55 rfl so4 rfl ?_
        refine r_aload_n 58 dX0_layStarts_57 rfl rfl lo3 ?_
        refine r_iload 60 dX0_layStarts_58 rfl lo5 ?_
        refine r_iload 62 dX0_layStarts_60 rfl lo4 ?_
        refine r_aload_n 63 dX0_layStarts_62 rfl rfl lo1 ?_
        refine r_iload_n 64 dX0_layStarts_63 rfl rfl lo2 ?_
        refine rR1 67 dX0_layStarts_64 rfl sV_X0_184_3 sU_X0_184_4 sU_X0_184_5 hrd.2 hk (by rfl) (by rfl) (by rfl) (fun _ => ev_X6_takes hrd.2 hk) (fun _ => ev_X6_takes hrd.2 hk) (fun _ => ev_X6_takes hrd.2 hk) ?_
        first | refine r_icmp_ltN 75 70 dX0_layStarts_67 rfl (by decide) (by omega) (by omega) (fun hc67 => ?_) (fun hc67 => ?_) | refine r_icmp_lt 75 70 dX0_layStarts_67 rfl (by decide) (fun hc67 => ?_) (fun hc67 => ?_)
        · refine r_aload_n 76 dX0_layStarts_75 rfl rfl lo3 ?_
          refine r_iload 78 dX0_layStarts_76 rfl lo5 ?_
          refine r_iconst 79 dX0_layStarts_78 rfl ic_1 ?_
          first | refine r_iaddN 80 dX0_layStarts_79 rfl ?_ | refine r_iadd 80 dX0_layStarts_79 rfl ?_
          refine r_ialdv 81 dX0_layStarts_80 rfl (hx.row hr10) _ rfl hrow (by omega) (by decide) ?_
          refine rx_iast (kk := (5 + r)) (N := 2001) 82 dX0_layStarts_81 rfl hx hF (Or.inr (by omega)) _ rfl xLr (by omega) (by decide) (fun A hx hF => ?_)
          rw [bx_uu, show (xr x (5 + r) f).2.1 (5 + r) = f from va_us] at hx
          refine r_iinc 85 dX0_layStarts_82 rfl lo5 rfl so5 rfl ?_
          refine r_goto 26 dX0_layStarts_85 (by decide) ?_
          refine ih _ A _ (by omega) (by first | exact hrs.symm | omega) (fun t h1 h2 => ?_) hx hF
          by_cases e : t = h
          · subst e
            rw [upd_s, hss]
            first | (rw [if_pos (by omega)]; rfl) | rw [if_neg (by omega)]
          · rw [upd_n e]
            exact hf t (by omega) h2
        · refine r_iload 72 dX0_layStarts_70 rfl lo5 ?_
          refine r_goto 81 dX0_layStarts_72 (by decide) ?_
          refine rx_iast (kk := (5 + r)) (N := 2001) 82 dX0_layStarts_81 rfl hx hF (Or.inr (by omega)) _ rfl xLr (by omega) (by decide) (fun A hx hF => ?_)
          rw [bx_uu, show (xr x (5 + r) f).2.1 (5 + r) = f from va_us] at hx
          refine r_iinc 85 dX0_layStarts_82 rfl lo5 rfl so5 rfl ?_
          refine r_goto 26 dX0_layStarts_85 (by decide) ?_
          refine ih _ A _ (by omega) (by first | exact hrs.symm | omega) (fun t h1 h2 => ?_) hx hF
          by_cases e : t = h
          · subst e
            rw [upd_s, hss]
            first | (rw [if_pos (by omega)]; rfl) | rw [if_neg (by omega)]
          · rw [upd_n e]
            exact hf t (by omega) h2

set_option maxHeartbeats 4000000 in
theorem ev_X0_layStarts {w : WE} {A : Hp} {x : XT} {S : ST} {r : Nat} {q : Rd} {herd : Bool} (hx : XS w A x S) (hq : S.2.2.1[r]? = some q) (hlv : LvX x S.2.1) : EvP w mX0_layStarts 3 0 0 [.ref (wb w), .ref (x.2.2.2.2.1 r), .int (bI herd)] A none (fun A' => ∃ f : Nat → Int32, XS w A' (xr x (5 + r) f) S ∧ Fx w A A' ∧ ∀ t, t ≤ 2000 → f t = nI (ec (stt S.2.1 q (tkO herd q) t))) := by
  refine Ev.mk 3 [some (.ref (wb w)), some (.ref (x.2.2.2.2.1 r)), some (.int (bI herd)), none, none, none] rfl plX0 (Nat.le_of_ble_eq_true rfl) ?_
  have hok := hx.ok
  have hr10 : r < 10 := by
    have := (List.getElem?_eq_some_iff.mp hq).1
    have := hok.2.2.2.1
    omega
  have hrk := hok.2.2.2.2 q (List.mem_of_getElem? hq)
  have hk := hrk.1
  have h0 : (q.1 = 0 → q.2.2.2.2.2 = 0) ∧ RdOk S.1 q := ⟨(hok.1.2 q (List.mem_of_getElem? hq)).2, hrk⟩
  have htk := tkO_le (herd := herd) hrk
  have xLr : xL (5 + r) = 2001 := by
    unfold xL
    rw [if_neg (by omega), if_pos (by omega)]
  have hrd := hx.rd r q hq
  have hF : Fx w A A := Fx.rf
  refine r_aload_n 1 dX0_layStarts_0 rfl rfl lo0 ?_
  refine r_get 4 dX0_layStarts_1 rfl g_X0_37_0 hx.t lo5 ?_
  refine r_aload_n 5 dX0_layStarts_4 rfl rfl lo1 ?_
  refine r_get 8 dX0_layStarts_5 rfl (gR_X0_181 hk) hrd.2 lo0 ?_
  refine r_aaldT (t := 3) 9 dX0_layStarts_8 rfl rfl rfl hx.s4 r rfl (by omega) (by decide) rfl ?_
  refine r_astore_n 10 dX0_layStarts_9 rfl rfl so3 rfl ?_
  refine r_aload_n 11 dX0_layStarts_10 rfl rfl lo3 ?_
  refine r_sipush 14 dX0_layStarts_11 rfl si_2000 ?_
  refine r_sipush 17 dX0_layStarts_14 rfl si_2001 ?_
  refine rx_iast (kk := (5 + r)) (N := 2001) 18 dX0_layStarts_17 rfl hx hF (Or.inr (by omega)) _ rfl xLr (by omega) (by decide) (fun A hx hF => ?_)
  refine r_iconst 19 dX0_layStarts_18 rfl ic_0 ?_
  refine r_istore 21 dX0_layStarts_19 rfl so4 rfl ?_
  refine r_sipush 24 dX0_layStarts_21 rfl si_1999 ?_
  refine r_istore 26 dX0_layStarts_24 rfl so5 rfl ?_
  rw [show nI 1999 = nI 2000 + Int32.ofInt (-1) by decide]
  exact lp_X0_layStarts hok hq hlv 2000 0 A _ (Nat.le_refl _) rfl (fun t h1 h2 => by rw [show t = 2000 by omega, upd_s]; rfl) hx hF

set_option maxHeartbeats 4000000 in
theorem lp_X0_layAll {w : WE} {A0 : Hp} {x : XT} {S : ST} {herd : Bool} : ∀ (j i : Nat) (A : Hp) (y : XT), i + j = S.2.2.1.length → XS w A y S → Fx w A0 A → y.1 = x.1 → y.2.2 = x.2.2 → (∀ k, 15 ≤ k → y.2.1 k = x.2.1 k) → LvX y S.2.1 → (∀ r q, r < i → S.2.2.1[r]? = some q → StX y S.2.1 herd r q) → Rn w mX0_layAll (rmX 5 0 0) (ZX w (fun v A' => v = none ∧ (fun A' => ∃ x' : XT, XS w A' x' S ∧ Fx w A0 A' ∧ x'.1 = x.1 ∧ x'.2.2 = x.2.2 ∧ (∀ k, 15 ≤ k → x'.2.1 k = x.2.1 k) ∧ LvX x' S.2.1 ∧ JX x' S herd) A') 0 0) 0 0 A 6 [some (.ref (wb w)), some (.int (bI herd)), some (.int (nI i))] [] := by
  intro j
  induction j with
  | zero =>
    intro i A y hij hx hF e1 e2 e3 hlv hst
    obtain ⟨cr, pr, gr, r1, r2, r3, r4, r5⟩ := hx.rl.use
    have hl10 := hx.ok.2.2.2.1
    refine r_iload_n 7 dX0_layAll_6 rfl rfl lo2 ?_
    refine r_aload_n 8 dX0_layAll_7 rfl rfl lo0 ?_
    refine r_get 11 dX0_layAll_8 rfl g_X0_28_0 hx.t lo3 ?_
    refine r_cF0 16 dX0_layAll_11 rfl sF_X0_65_7 r1 (by rfl) (ev_J2_size r1) ?_
    first | refine r_icmp_geN 43 19 dX0_layAll_16 rfl (by decide) (by omega) (by omega) (fun hc16 => ?_) (fun hc16 => ?_) | refine r_icmp_ge 43 19 dX0_layAll_16 rfl (by decide) (fun hc16 => ?_) (fun hc16 => ?_)
    · exact r_vret dX0_layAll_43 rfl (Nat.le_refl _) (Nat.le_refl _) ⟨rfl, y, hx, hF, e1, e2, e3, hlv, fun r q hq => hst r q (by have := (List.getElem?_eq_some_iff.mp hq).1; omega) hq⟩
    · exact absurd hc16 (by omega)
  | succ j ih =>
    intro i A y hij hx hF e1 e2 e3 hlv hst
    obtain ⟨cr, pr, gr, r1, r2, r3, r4, r5⟩ := hx.rl.use
    have hl10 := hx.ok.2.2.2.1
    have hil : i < S.2.2.1.length := by omega
    obtain ⟨q, hq⟩ := get_of_lt hil
    have hrd := hx.rd i q hq
    have hk := (hx.rok hq).1
    refine r_iload_n 7 dX0_layAll_6 rfl rfl lo2 ?_
    refine r_aload_n 8 dX0_layAll_7 rfl rfl lo0 ?_
    refine r_get 11 dX0_layAll_8 rfl g_X0_28_0 hx.t lo3 ?_
    refine r_cF0 16 dX0_layAll_11 rfl sF_X0_65_7 r1 (by rfl) (ev_J2_size r1) ?_
    first | refine r_icmp_geN 43 19 dX0_layAll_16 rfl (by decide) (by omega) (by omega) (fun hc16 => ?_) (fun hc16 => ?_) | refine r_icmp_ge 43 19 dX0_layAll_16 rfl (by decide) (fun hc16 => ?_) (fun hc16 => ?_)
    · exact absurd hc16 (by omega)
    · refine r_aload_n 20 dX0_layAll_19 rfl rfl lo0 ?_
      refine r_aload_n 21 dX0_layAll_20 rfl rfl lo0 ?_
      refine r_get 24 dX0_layAll_21 rfl g_X0_28_0 hx.t lo3 ?_
      refine r_iload_n 25 dX0_layAll_24 rfl rfl lo2 ?_
      refine r_cF1 30 dX0_layAll_25 rfl sF_X0_112_7 r1 (by rfl) (ev_J2_get r1 r2 hil r3 (by omega) (r5 i hil)) ?_
      refine r_castY 33 dX0_layAll_30 rfl (sC_X0_147 hk) hrd.2 ?_
      refine r_iload_n 34 dX0_layAll_33 rfl rfl lo1 ?_
      refine rx_V2v 37 dX0_layAll_34 rfl sV_X0_191_0 hx.t (by rfl) (ev_X0_layStarts (herd := herd) hx hq hlv) (fun A hP => ?_)
      obtain ⟨f, hx, hF2, hf⟩ := hP
      have hF := hF.tr hF2
      refine r_iinc 40 dX0_layAll_37 rfl lo2 inc1 so2 rfl ?_
      refine r_goto 6 dX0_layAll_40 (by decide) ?_
      refine ih (i + 1) A _ (by omega) hx hF e1 e2 (fun k hk => by rw [← e3 k hk]; exact va_un (by omega)) (fun h hh => ?_) (fun r p hr hp => ?_)
      · show va_up y.2.1 (5 + i) f 3 h = _
        rw [va_un (by omega)]
        exact hlv h hh
      · by_cases e : r = i
        · subst e
          cases hq.symm.trans hp
          intro t ht
          show va_up y.2.1 (5 + r) f (5 + r) t = _
          rw [va_us]
          exact hf t ht
        · intro t ht
          show va_up y.2.1 (5 + i) f (5 + r) t = _
          rw [va_un (by omega)]
          exact hst r p (by omega) hp t ht

set_option maxHeartbeats 4000000 in
theorem ev_X0_layAll {w : WE} {A : Hp} {x : XT} {S : ST} {herd : Bool} (hx : XS w A x S) : EvP w mX0_layAll 5 0 0 [.ref (wb w), .int (bI herd)] A none (fun A' => ∃ x' : XT, XS w A' x' S ∧ Fx w A A' ∧ x'.1 = x.1 ∧ x'.2.2 = x.2.2 ∧ (∀ k, 15 ≤ k → x'.2.1 k = x.2.1 k) ∧ LvX x' S.2.1 ∧ JX x' S herd) := by
  refine Ev.mk 1 [some (.ref (wb w)), some (.int (bI herd)), none] rfl plX0 (Nat.le_of_ble_eq_true rfl) ?_
  refine r_aload_n 1 dX0_layAll_0 rfl rfl lo0 ?_
  refine rx_V0v 4 dX0_layAll_1 rfl sV_X0_188_0 hx.t (by rfl) (ev_X0_layLevels hx) (fun A hP => ?_)
  obtain ⟨f, hx, hF, hf⟩ := hP
  refine r_iconst 5 dX0_layAll_4 rfl ic_0 ?_
  refine r_istore_n 6 dX0_layAll_5 rfl rfl so2 rfl ?_
  exact lp_X0_layAll S.2.2.1.length 0 A _ (by omega) hx hF rfl rfl (fun k hk => va_un (by omega)) hf (fun r q hr => absurd hr (by omega))

set_option maxHeartbeats 4000000 in
theorem ev_X0_next {w : WE} {A : Hp} {x : XT} {S : ST} {v hour : Int32} {herd : Bool} (hx : XS w A x S) : EvP w mX0_next 5 0 0 [.ref (wb w), .int v, .int hour, .int (bI herd)] A (some (.int (sp_next S v hour herd))) (fun A' => ∃ x' : XT, XS w A' x' S ∧ Fx w A A') := by
  refine Ev.mk 1 [some (.ref (wb w)), some (.int v), some (.int hour), some (.int (bI herd)), none] rfl plX0 (Nat.le_of_ble_eq_true rfl) ?_
  have hl10 := hx.ok.2.2.2.1
  refine r_aload_n 1 dX0_next_0 rfl rfl lo0 ?_
  refine r_iload_n 2 dX0_next_1 rfl rfl lo1 ?_
  refine r_cV1 5 dX0_next_2 rfl sV_X0_158_0 hx.t (by rfl) (ev_X0_noRoad hx) ?_
  refine r_if_eqB 10 8 dX0_next_5 rfl (by decide) (fun hc5 => ?_) (fun hc5 => ?_)
  · obtain ⟨j, q, hj, rfl, hq, hix⟩ := ix_ok (l := S.2.2.1) (x := v) (by have := btw_t.mp (by simpa using hc5); omega)
    have hrd := hx.rd j q hq
    have hrk := hx.rok hq
    have hk := hrk.1
    have h0 : (q.1 = 0 → q.2.2.2.2.2 = 0) ∧ RdOk S.1 q := ⟨(hx.ok.1.2 q (List.mem_of_getElem? hq)).2, hrk⟩
    refine r_iload_n 11 dX0_next_10 rfl rfl lo2 ?_
    refine r_cS1 14 dX0_next_11 rfl sS_X0_125 (by rfl) ev_X0_isHour ?_
    refine r_if_neB 20 17 dX0_next_14 rfl (by decide) (fun hc14 => ?_) (fun hc14 => ?_)
    · obtain ⟨h, hh, rfl⟩ := hr_ok hc14
      refine r_aload_n 21 dX0_next_20 rfl rfl lo0 ?_
      refine rx_V0v 24 dX0_next_21 rfl sV_X0_188_0 hx.t (by rfl) (ev_X0_layLevels hx) (fun A hP => ?_)
      obtain ⟨f, hx, hF, hf⟩ := hP
      obtain ⟨cr, pr, gr, r1, r2, r3, r4, r5⟩ := hx.rl.use
      have hrd := hx.rd j q hq
      refine r_aload_n 25 dX0_next_24 rfl rfl lo0 ?_
      refine r_aload_n 26 dX0_next_25 rfl rfl lo0 ?_
      refine r_get 29 dX0_next_26 rfl g_X0_28_0 hx.t lo3 ?_
      refine r_iload_n 30 dX0_next_29 rfl rfl lo1 ?_
      refine r_cF1 35 dX0_next_30 rfl sF_X0_112_7 r1 (by rfl) (ev_J2_get r1 r2 hj r3 (by omega) (r5 j hj)) ?_
      refine r_castY 38 dX0_next_35 rfl (sC_X0_147 hk) hrd.2 ?_
      refine r_iload_n 39 dX0_next_38 rfl rfl lo3 ?_
      refine rx_V2v 42 dX0_next_39 rfl sV_X0_191_0 hx.t (by rfl) (ev_X0_layStarts (herd := herd) hx hq hf) (fun A hP => ?_)
      obtain ⟨f2, hx, hF2, hf2⟩ := hP
      have hF := hF.tr hF2
      have hb := ec_le (ms := S.2.1) (q := q) (tk := tkO herd q) (h := h) (by omega)
      refine r_aload_n 43 dX0_next_42 rfl rfl lo0 ?_
      refine r_get 46 dX0_next_43 rfl g_X0_37_0 hx.t lo5 ?_
      refine r_iload_n 47 dX0_next_46 rfl rfl lo1 ?_
      refine r_aaldT (t := 3) 48 dX0_next_47 rfl rfl rfl hx.s4 j rfl (by omega) (by decide) rfl ?_
      refine r_iload_n 49 dX0_next_48 rfl rfl lo2 ?_
      refine r_ialdv 50 dX0_next_49 rfl (hx.row (r := j) (by omega)) _ rfl (show va_up _ (5 + j) f2 (5 + j) h = _ from (congrFun va_us h).trans (hf2 h (by omega))) (by omega) (by decide) ?_
      refine r_istore 52 dX0_next_50 rfl so4 rfl ?_
      refine r_iload 54 dX0_next_52 rfl lo4 ?_
      refine r_sipush 57 dX0_next_54 rfl si_2001 ?_
      first | refine r_icmp_neN 65 60 dX0_next_57 rfl (by decide) (by omega) (by omega) (fun hc57 => ?_) (fun hc57 => ?_) | refine r_icmp_ne 65 60 dX0_next_57 rfl (by decide) (fun hc57 => ?_) (fun hc57 => ?_)
      · refine r_iload 67 dX0_next_65 rfl lo4 ?_
        exact r_iret dX0_next_67 rfl (Nat.le_refl _) (Nat.le_refl _) ⟨rq (by unfold sp_next; rw [hix]; dsimp only; rw [if_pos hc14, nI_nat (j := h) (by omega)]; first | exact ec_oI hc57 (fun s e => by have := stt_le (show h ≤ 2000 by omega) e; omega) | exact ec_ne hc57), _, hx, hF⟩
      · refine r_bipush 62 dX0_next_60 rfl bi_m9 ?_
        refine r_goto 67 dX0_next_62 (by decide) ?_
        exact r_iret dX0_next_67 rfl (Nat.le_refl _) (Nat.le_refl _) ⟨rq (by unfold sp_next; rw [hix]; dsimp only; rw [if_pos hc14, nI_nat (j := h) (by omega)]; first | exact ec_oI hc57 (fun s e => by have := stt_le (show h ≤ 2000 by omega) e; omega) | exact ec_ne hc57), _, hx, hF⟩
    · refine r_bipush 19 dX0_next_17 rfl bi_m2 ?_
      exact r_iret dX0_next_19 rfl (Nat.le_refl _) (Nat.le_refl _) ⟨rq (by unfold sp_next; rw [hix]; dsimp only; rw [if_neg (by rw [hc14]; decide)]), x, hx, Fx.rf⟩
  · refine r_iconst 9 dX0_next_8 rfl ic_m1 ?_
    exact r_iret dX0_next_9 rfl (Nat.le_refl _) (Nat.le_refl _) ⟨rq (by unfold sp_next; rw [ix_no (by exact btw_f.mp (by simpa using hc5))]), x, hx, Fx.rf⟩

