/-! THE REFERENCE: sheets -/
set_option maxRecDepth 100000
set_option maxHeartbeats 4000000 in
theorem ev_X1_lost {w : WE} {A : Hp} {m : MT} {v : Int32} (hm : MR w A m) : EvMl w mX1_lost 1 [.ref (mb w), .int v] A LOST (fun m' => m' = (va_up m.1 0 v, m.2)) := by
  refine Ev.mk 0 [some (.ref (mb w)), some (.int v)] rfl plX1 (Nat.le_of_ble_eq_true rfl) ?_
  have hF : Fm w A A := Fm.rf
  refine r_aload_n 1 dX1_lost_0 rfl rfl lo0 ?_
  refine r_iload_n 2 dX1_lost_1 rfl rfl lo1 ?_
  refine rm_put 5 dX1_lost_2 rfl hm hF g_X1_76_1 fw_1_0 rfl (by decide) (fun A hm hF => ?_)
  refine r_ldc2 8 dX1_lost_5 rfl q1355 ?_
  exact r_lret dX1_lost_8 rfl (Nat.le_refl _) (Nat.le_refl _) (qm hm hF ⟨rfl, rfl⟩)

set_option maxHeartbeats 4000000 in
theorem ev_X1_against {w : WE} {A : Hp} {m : MT} {S : ST} {k : Nat} {sort i n : Int32} (hm : MR w A m) (hS : MS m S) (hk : k < 4) : EvI w mX1_against 1 [.ref (mb w), .int (nI k), .int sort, .int i, .int n] A (nI (ag (S.2.2.2.2.2 k) sort i n)) := by
  refine Ev.mk 0 [some (.ref (mb w)), some (.int (nI k)), some (.int sort), some (.int i), some (.int n)] rfl plX1 (Nat.le_of_ble_eq_true rfl) ?_
  obtain ⟨sn, ss⟩ := hS.sh k hk
  rcases hq : S.2.2.2.2.2 k with _ | q
  · have h1 := sn hq
    refine r_aload_n 1 dX1_against_0 rfl rfl lo0 ?_
    refine r_get 4 dX1_against_1 rfl g_X1_9_1 hm.t lo2 ?_
    refine r_iload_n 5 dX1_against_4 rfl rfl lo1 ?_
    refine r_ialdv 6 dX1_against_5 rfl hm.a1 _ rfl h1 (by omega) (by decide) ?_
    refine r_bipush 8 dX1_against_6 rfl bi_m9 ?_
    refine r_icmp_eq 23 11 dX1_against_8 rfl (by decide) (fun hc8 => ?_) (fun hc8 => ?_)
    · refine r_aload_n 24 dX1_against_23 rfl rfl lo0 ?_
      refine r_get 27 dX1_against_24 rfl g_X1_9_1 hm.t lo2 ?_
      refine r_iload_n 28 dX1_against_27 rfl rfl lo1 ?_
      refine r_ialdv 29 dX1_against_28 rfl hm.a1 _ rfl h1 (by omega) (by decide) ?_
      refine r_bipush 31 dX1_against_29 rfl bi_m9 ?_
      refine r_icmp_ne 36 34 dX1_against_31 rfl (by decide) (fun hc31 => ?_) (fun hc31 => ?_)
      · refine r_iload 38 dX1_against_36 rfl lo4 ?_
        refine r_if_ge 43 41 dX1_against_38 rfl (by decide) (fun hc38 => ?_) (fun hc38 => ?_)
        · refine r_iload_n 44 dX1_against_43 rfl rfl lo3 ?_
          refine r_if_lt 70 47 dX1_against_44 rfl (by decide) (fun hc44 => ?_) (fun hc44 => ?_)
          · refine r_iconst 71 dX1_against_70 rfl ic_3 ?_
            refine r_goto 75 dX1_against_71 (by decide) ?_
            exact r_iret dX1_against_75 rfl (Nat.le_refl _) (Nat.le_refl _) (rv (absurd rfl hc31))
          · refine r_iload_n 48 dX1_against_47 rfl rfl lo3 ?_
            refine r_aload_n 49 dX1_against_48 rfl rfl lo0 ?_
            refine r_get 52 dX1_against_49 rfl g_X1_13_1 hm.t lo3 ?_
            refine r_iload_n 53 dX1_against_52 rfl rfl lo1 ?_
            refine r_iald 54 dX1_against_53 rfl hm.a2 _ rfl (by omega) (by decide) ?_
            refine r_icmp_gt 70 57 dX1_against_54 rfl (by decide) (fun hc54 => ?_) (fun hc54 => ?_)
            · refine r_iconst 71 dX1_against_70 rfl ic_3 ?_
              refine r_goto 75 dX1_against_71 (by decide) ?_
              exact r_iret dX1_against_75 rfl (Nat.le_refl _) (Nat.le_refl _) (rv (absurd rfl hc31))
            · refine r_iload 59 dX1_against_57 rfl lo4 ?_
              refine r_aload_n 60 dX1_against_59 rfl rfl lo0 ?_
              refine r_get 63 dX1_against_60 rfl g_X1_13_1 hm.t lo3 ?_
              refine r_iload_n 64 dX1_against_63 rfl rfl lo1 ?_
              refine r_iald 65 dX1_against_64 rfl hm.a2 _ rfl (by omega) (by decide) ?_
              refine r_iload_n 66 dX1_against_65 rfl rfl lo3 ?_
              refine r_isub 67 dX1_against_66 rfl ?_
              refine r_icmp_le 74 70 dX1_against_67 rfl (by decide) (fun hc67 => ?_) (fun hc67 => ?_)
              · refine r_iconst 75 dX1_against_74 rfl ic_0 ?_
                exact r_iret dX1_against_75 rfl (Nat.le_refl _) (Nat.le_refl _) (rv (absurd rfl hc31))
              · refine r_iconst 71 dX1_against_70 rfl ic_3 ?_
                refine r_goto 75 dX1_against_71 (by decide) ?_
                exact r_iret dX1_against_75 rfl (Nat.le_refl _) (Nat.le_refl _) (rv (absurd rfl hc31))
        · refine r_iconst 42 dX1_against_41 rfl ic_4 ?_
          exact r_iret dX1_against_42 rfl (Nat.le_refl _) (Nat.le_refl _) (rv (absurd rfl hc31))
      · refine r_iconst 35 dX1_against_34 rfl ic_1 ?_
        exact r_iret dX1_against_35 rfl (Nat.le_refl _) (Nat.le_refl _) (rv rfl)
    · refine r_aload_n 12 dX1_against_11 rfl rfl lo0 ?_
      refine r_get 15 dX1_against_12 rfl g_X1_9_1 hm.t lo2 ?_
      refine r_iload_n 16 dX1_against_15 rfl rfl lo1 ?_
      refine r_ialdv 17 dX1_against_16 rfl hm.a1 _ rfl h1 (by omega) (by decide) ?_
      refine r_iload_n 18 dX1_against_17 rfl rfl lo2 ?_
      refine r_icmp_eq 23 21 dX1_against_18 rfl (by decide) (fun hc18 => ?_) (fun hc18 => ?_)
      · refine r_aload_n 24 dX1_against_23 rfl rfl lo0 ?_
        refine r_get 27 dX1_against_24 rfl g_X1_9_1 hm.t lo2 ?_
        refine r_iload_n 28 dX1_against_27 rfl rfl lo1 ?_
        refine r_ialdv 29 dX1_against_28 rfl hm.a1 _ rfl h1 (by omega) (by decide) ?_
        refine r_bipush 31 dX1_against_29 rfl bi_m9 ?_
        refine r_icmp_ne 36 34 dX1_against_31 rfl (by decide) (fun hc31 => ?_) (fun hc31 => ?_)
        · refine r_iload 38 dX1_against_36 rfl lo4 ?_
          refine r_if_ge 43 41 dX1_against_38 rfl (by decide) (fun hc38 => ?_) (fun hc38 => ?_)
          · refine r_iload_n 44 dX1_against_43 rfl rfl lo3 ?_
            refine r_if_lt 70 47 dX1_against_44 rfl (by decide) (fun hc44 => ?_) (fun hc44 => ?_)
            · refine r_iconst 71 dX1_against_70 rfl ic_3 ?_
              refine r_goto 75 dX1_against_71 (by decide) ?_
              exact r_iret dX1_against_75 rfl (Nat.le_refl _) (Nat.le_refl _) (rv (absurd rfl hc31))
            · refine r_iload_n 48 dX1_against_47 rfl rfl lo3 ?_
              refine r_aload_n 49 dX1_against_48 rfl rfl lo0 ?_
              refine r_get 52 dX1_against_49 rfl g_X1_13_1 hm.t lo3 ?_
              refine r_iload_n 53 dX1_against_52 rfl rfl lo1 ?_
              refine r_iald 54 dX1_against_53 rfl hm.a2 _ rfl (by omega) (by decide) ?_
              refine r_icmp_gt 70 57 dX1_against_54 rfl (by decide) (fun hc54 => ?_) (fun hc54 => ?_)
              · refine r_iconst 71 dX1_against_70 rfl ic_3 ?_
                refine r_goto 75 dX1_against_71 (by decide) ?_
                exact r_iret dX1_against_75 rfl (Nat.le_refl _) (Nat.le_refl _) (rv (absurd rfl hc31))
              · refine r_iload 59 dX1_against_57 rfl lo4 ?_
                refine r_aload_n 60 dX1_against_59 rfl rfl lo0 ?_
                refine r_get 63 dX1_against_60 rfl g_X1_13_1 hm.t lo3 ?_
                refine r_iload_n 64 dX1_against_63 rfl rfl lo1 ?_
                refine r_iald 65 dX1_against_64 rfl hm.a2 _ rfl (by omega) (by decide) ?_
                refine r_iload_n 66 dX1_against_65 rfl rfl lo3 ?_
                refine r_isub 67 dX1_against_66 rfl ?_
                refine r_icmp_le 74 70 dX1_against_67 rfl (by decide) (fun hc67 => ?_) (fun hc67 => ?_)
                · refine r_iconst 75 dX1_against_74 rfl ic_0 ?_
                  exact r_iret dX1_against_75 rfl (Nat.le_refl _) (Nat.le_refl _) (rv (absurd rfl hc31))
                · refine r_iconst 71 dX1_against_70 rfl ic_3 ?_
                  refine r_goto 75 dX1_against_71 (by decide) ?_
                  exact r_iret dX1_against_75 rfl (Nat.le_refl _) (Nat.le_refl _) (rv (absurd rfl hc31))
          · refine r_iconst 42 dX1_against_41 rfl ic_4 ?_
            exact r_iret dX1_against_42 rfl (Nat.le_refl _) (Nat.le_refl _) (rv (absurd rfl hc31))
        · refine r_iconst 35 dX1_against_34 rfl ic_1 ?_
          exact r_iret dX1_against_35 rfl (Nat.le_refl _) (Nat.le_refl _) (rv rfl)
      · refine r_iconst 22 dX1_against_21 rfl ic_2 ?_
        exact r_iret dX1_against_22 rfl (Nat.le_refl _) (Nat.le_refl _) (rv (absurd rfl hc8))
  · obtain ⟨h1, l1, h2, l2, h3⟩ := ss q hq
    refine r_aload_n 1 dX1_against_0 rfl rfl lo0 ?_
    refine r_get 4 dX1_against_1 rfl g_X1_9_1 hm.t lo2 ?_
    refine r_iload_n 5 dX1_against_4 rfl rfl lo1 ?_
    refine r_ialdv 6 dX1_against_5 rfl hm.a1 _ rfl h1 (by omega) (by decide) ?_
    refine r_bipush 8 dX1_against_6 rfl bi_m9 ?_
    refine r_icmp_eq 23 11 dX1_against_8 rfl (by decide) (fun hc8 => ?_) (fun hc8 => ?_)
    · exact absurd hc8 (nI_m9 (by omega))
    · refine r_aload_n 12 dX1_against_11 rfl rfl lo0 ?_
      refine r_get 15 dX1_against_12 rfl g_X1_9_1 hm.t lo2 ?_
      refine r_iload_n 16 dX1_against_15 rfl rfl lo1 ?_
      refine r_ialdv 17 dX1_against_16 rfl hm.a1 _ rfl h1 (by omega) (by decide) ?_
      refine r_iload_n 18 dX1_against_17 rfl rfl lo2 ?_
      refine r_icmp_eq 23 21 dX1_against_18 rfl (by decide) (fun hc18 => ?_) (fun hc18 => ?_)
      · refine r_aload_n 24 dX1_against_23 rfl rfl lo0 ?_
        refine r_get 27 dX1_against_24 rfl g_X1_9_1 hm.t lo2 ?_
        refine r_iload_n 28 dX1_against_27 rfl rfl lo1 ?_
        refine r_ialdv 29 dX1_against_28 rfl hm.a1 _ rfl h1 (by omega) (by decide) ?_
        refine r_bipush 31 dX1_against_29 rfl bi_m9 ?_
        refine r_icmp_ne 36 34 dX1_against_31 rfl (by decide) (fun hc31 => ?_) (fun hc31 => ?_)
        · refine r_iload 38 dX1_against_36 rfl lo4 ?_
          refine r_if_ge 43 41 dX1_against_38 rfl (by decide) (fun hc38 => ?_) (fun hc38 => ?_)
          · refine r_iload_n 44 dX1_against_43 rfl rfl lo3 ?_
            refine r_if_lt 70 47 dX1_against_44 rfl (by decide) (fun hc44 => ?_) (fun hc44 => ?_)
            · refine r_iconst 71 dX1_against_70 rfl ic_3 ?_
              refine r_goto 75 dX1_against_71 (by decide) ?_
              exact r_iret dX1_against_75 rfl (Nat.le_refl _) (Nat.le_refl _) (rv (by show _ = nI (ag (some q) sort i n); unfold ag; dsimp only; first | exact absurd hc8 (nI_m9 (by omega)) | rw [if_neg (fun h => h hc18), if_neg (by simp only [i_lt, i_le, z_om] at *; omega), if_pos (by first | exact Or.inl hc44 | exact Or.inr (Or.inl hc54) | exact Or.inr (Or.inr (by simp only [i_lt, i_le] at *; omega)))] | rw [if_neg (fun h => h hc18), if_neg (by simp only [i_lt, i_le, z_om] at *; omega), if_neg (by simp only [i_lt, i_le, z_om, not_or] at *; omega)]))
            · refine r_iload_n 48 dX1_against_47 rfl rfl lo3 ?_
              refine r_aload_n 49 dX1_against_48 rfl rfl lo0 ?_
              refine r_get 52 dX1_against_49 rfl g_X1_13_1 hm.t lo3 ?_
              refine r_iload_n 53 dX1_against_52 rfl rfl lo1 ?_
              refine r_ialdv 54 dX1_against_53 rfl hm.a2 _ rfl h2 (by omega) (by decide) ?_
              refine r_icmp_gt 70 57 dX1_against_54 rfl (by decide) (fun hc54 => ?_) (fun hc54 => ?_)
              · refine r_iconst 71 dX1_against_70 rfl ic_3 ?_
                refine r_goto 75 dX1_against_71 (by decide) ?_
                exact r_iret dX1_against_75 rfl (Nat.le_refl _) (Nat.le_refl _) (rv (by show _ = nI (ag (some q) sort i n); unfold ag; dsimp only; first | exact absurd hc8 (nI_m9 (by omega)) | rw [if_neg (fun h => h hc18), if_neg (by simp only [i_lt, i_le, z_om] at *; omega), if_pos (by first | exact Or.inl hc44 | exact Or.inr (Or.inl hc54) | exact Or.inr (Or.inr (by simp only [i_lt, i_le] at *; omega)))] | rw [if_neg (fun h => h hc18), if_neg (by simp only [i_lt, i_le, z_om] at *; omega), if_neg (by simp only [i_lt, i_le, z_om, not_or] at *; omega)]))
              · refine r_iload 59 dX1_against_57 rfl lo4 ?_
                refine r_aload_n 60 dX1_against_59 rfl rfl lo0 ?_
                refine r_get 63 dX1_against_60 rfl g_X1_13_1 hm.t lo3 ?_
                refine r_iload_n 64 dX1_against_63 rfl rfl lo1 ?_
                refine r_ialdv 65 dX1_against_64 rfl hm.a2 _ rfl h2 (by omega) (by decide) ?_
                refine r_iload_n 66 dX1_against_65 rfl rfl lo3 ?_
                refine r_isub 67 dX1_against_66 rfl ?_
                refine r_icmp_le 74 70 dX1_against_67 rfl (by decide) (fun hc67 => ?_) (fun hc67 => ?_)
                · refine r_iconst 75 dX1_against_74 rfl ic_0 ?_
                  exact r_iret dX1_against_75 rfl (Nat.le_refl _) (Nat.le_refl _) (rv (by show _ = nI (ag (some q) sort i n); unfold ag; dsimp only; first | exact absurd hc8 (nI_m9 (by omega)) | rw [if_neg (fun h => h hc18), if_neg (by simp only [i_lt, i_le, z_om] at *; omega), if_pos (by first | exact Or.inl hc44 | exact Or.inr (Or.inl hc54) | exact Or.inr (Or.inr (by simp only [i_lt, i_le] at *; omega)))] | rw [if_neg (fun h => h hc18), if_neg (by simp only [i_lt, i_le, z_om] at *; omega), if_neg (by simp only [i_lt, i_le, z_om, not_or] at *; omega)]))
                · refine r_iconst 71 dX1_against_70 rfl ic_3 ?_
                  refine r_goto 75 dX1_against_71 (by decide) ?_
                  exact r_iret dX1_against_75 rfl (Nat.le_refl _) (Nat.le_refl _) (rv (by show _ = nI (ag (some q) sort i n); unfold ag; dsimp only; first | exact absurd hc8 (nI_m9 (by omega)) | rw [if_neg (fun h => h hc18), if_neg (by simp only [i_lt, i_le, z_om] at *; omega), if_pos (by first | exact Or.inl hc44 | exact Or.inr (Or.inl hc54) | exact Or.inr (Or.inr (by simp only [i_lt, i_le] at *; omega)))] | rw [if_neg (fun h => h hc18), if_neg (by simp only [i_lt, i_le, z_om] at *; omega), if_neg (by simp only [i_lt, i_le, z_om, not_or] at *; omega)]))
          · refine r_iconst 42 dX1_against_41 rfl ic_4 ?_
            exact r_iret dX1_against_42 rfl (Nat.le_refl _) (Nat.le_refl _) (rv (by show _ = nI (ag (some q) sort i n); unfold ag; dsimp only; first | exact absurd hc8 (nI_m9 (by omega)) | rw [if_neg (fun h => h hc18), if_pos (by simp only [i_lt, i_le, z_om] at *; omega)]))
        · refine r_iconst 35 dX1_against_34 rfl ic_1 ?_
          exact r_iret dX1_against_35 rfl (Nat.le_refl _) (Nat.le_refl _) (rv (absurd hc31 (nI_m9 (by omega))))
      · refine r_iconst 22 dX1_against_21 rfl ic_2 ?_
        exact r_iret dX1_against_22 rfl (Nat.le_refl _) (Nat.le_refl _) (rv (by show _ = nI (ag (some q) sort i n); unfold ag; dsimp only; rw [if_pos hc18]))

set_option maxHeartbeats 4000000 in
theorem ev_X1_lose {w : WE} {A : Hp} {m : MT} {S : ST} {k : Int32} (hm : MR w A m) (hS : MS m S) : Ev w mX1_lose 3 0 0 [.ref (mb w), .int k] A (QM w A (fun v m' => v = some (.int (sp_lose S k).1) ∧ MS m' (sp_lose S k).2)) := by
  refine Ev.mk 1 [some (.ref (mb w)), some (.int k), none] rfl plX1 (Nat.le_of_ble_eq_true rfl) ?_
  have hF : Fm w A A := Fm.rf
  refine r_iload_n 1 dX1_lose_0 rfl rfl lo1 ?_
  refine r_cS1 4 dX1_lose_1 rfl sS_X1_96 (by rfl) ev_X1_isSheet ?_
  refine r_if_neB 9 7 dX1_lose_4 rfl (by decide) (fun hc4 => ?_) (fun hc4 => ?_)
  · obtain ⟨k, hk, rfl⟩ := sheet_ok hc4
    obtain ⟨sn, ss⟩ := hS.sh k hk
    rcases hq : S.2.2.2.2.2 k with _ | q
    · have h1 := sn hq
      refine r_aload_n 10 dX1_lose_9 rfl rfl lo0 ?_
      refine r_get 13 dX1_lose_10 rfl g_X1_9_1 hm.t lo2 ?_
      refine r_iload_n 14 dX1_lose_13 rfl rfl lo1 ?_
      refine r_ialdv 15 dX1_lose_14 rfl hm.a1 _ rfl h1 (by omega) (by decide) ?_
      refine r_bipush 17 dX1_lose_15 rfl bi_m9 ?_
      refine r_icmp_ne 24 20 dX1_lose_17 rfl (by decide) (fun hc17 => ?_) (fun hc17 => ?_)
      · exact absurd rfl hc17
      · refine r_iconst 21 dX1_lose_20 rfl ic_0 ?_
        refine r_goto 25 dX1_lose_21 (by decide) ?_
        refine r_istore_n 26 dX1_lose_25 rfl rfl so2 rfl ?_
        refine r_aload_n 27 dX1_lose_26 rfl rfl lo0 ?_
        refine r_get 30 dX1_lose_27 rfl g_X1_9_1 hm.t lo2 ?_
        refine r_iload_n 31 dX1_lose_30 rfl rfl lo1 ?_
        refine r_bipush 33 dX1_lose_31 rfl bi_m9 ?_
        refine rm_iast (N := 4) 34 dX1_lose_33 rfl hm hF (by decide) (by decide) _ rfl rfl (by omega) (by decide) (fun A hm hF => ?_)
        refine r_iload_n 35 dX1_lose_34 rfl rfl lo2 ?_
        exact r_iret dX1_lose_35 rfl (Nat.le_refl _) (Nat.le_refl _) (qm hm hF (by
              have e : sp_lose S (nI k) = (nI 0, sH S k none) := by
                unfold sp_lose
                rw [if_pos hc4, nI_nat (by omega), hq]
                rfl
              rw [e]
              exact ⟨rfl, hS.arr rfl (fun j h1 h2 => by simp [va_up]; omega) (hS.sh.gen (k := k) (o := none) rfl rfl rfl ⟨fun _ => upd_s, fun q h => by cases h⟩ (fun j hj => upd_n hj) (fun _ _ => rfl) (fun _ _ _ _ => rfl))⟩))
    · obtain ⟨h1, l1, h2, l2, h3⟩ := ss q hq
      refine r_aload_n 10 dX1_lose_9 rfl rfl lo0 ?_
      refine r_get 13 dX1_lose_10 rfl g_X1_9_1 hm.t lo2 ?_
      refine r_iload_n 14 dX1_lose_13 rfl rfl lo1 ?_
      refine r_ialdv 15 dX1_lose_14 rfl hm.a1 _ rfl h1 (by omega) (by decide) ?_
      refine r_bipush 17 dX1_lose_15 rfl bi_m9 ?_
      refine r_icmp_ne 24 20 dX1_lose_17 rfl (by decide) (fun hc17 => ?_) (fun hc17 => ?_)
      · refine r_iconst 25 dX1_lose_24 rfl ic_1 ?_
        refine r_istore_n 26 dX1_lose_25 rfl rfl so2 rfl ?_
        refine r_aload_n 27 dX1_lose_26 rfl rfl lo0 ?_
        refine r_get 30 dX1_lose_27 rfl g_X1_9_1 hm.t lo2 ?_
        refine r_iload_n 31 dX1_lose_30 rfl rfl lo1 ?_
        refine r_bipush 33 dX1_lose_31 rfl bi_m9 ?_
        refine rm_iast (N := 4) 34 dX1_lose_33 rfl hm hF (by decide) (by decide) _ rfl rfl (by omega) (by decide) (fun A hm hF => ?_)
        refine r_iload_n 35 dX1_lose_34 rfl rfl lo2 ?_
        exact r_iret dX1_lose_35 rfl (Nat.le_refl _) (Nat.le_refl _) (qm hm hF (by
              have e : sp_lose S (nI k) = (nI 1, sH S k none) := by
                unfold sp_lose
                rw [if_pos hc4, nI_nat (by omega), hq]
                rfl
              rw [e]
              exact ⟨rfl, hS.arr rfl (fun j h1 h2 => by simp [va_up]; omega) (hS.sh.gen (k := k) (o := none) rfl rfl rfl ⟨fun _ => upd_s, fun q h => by cases h⟩ (fun j hj => upd_n hj) (fun _ _ => rfl) (fun _ _ _ _ => rfl))⟩))
      · exact absurd hc17 (nI_m9 (by omega))
  · refine r_iconst 8 dX1_lose_7 rfl ic_m1 ?_
    exact r_iret dX1_lose_8 rfl (Nat.le_refl _) (Nat.le_refl _) (qm hm hF (by have e : sp_lose S k = (-1, S) := by { unfold sp_lose; rw [if_neg (by rw [hc4]; decide)] }; rw [e]; exact ⟨rfl, hS⟩))

