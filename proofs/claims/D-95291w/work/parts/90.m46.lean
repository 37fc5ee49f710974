/-! THE CLASS: tried -/
set_option maxRecDepth 100000
/-- the code of an exception that is caught -/
def XC (X : String) (f : Nat) : Prop := (X = "java/lang/NullPointerException" ∧ f = 1) ∨ (X = "java/lang/ClassCastException" ∧ f = 2) ∨ (X = "java/lang/ArrayStoreException" ∧ f = 2) ∨ (X = "java/lang/NegativeArraySizeException" ∧ f = 4) ∨ (X = "java/lang/ArrayIndexOutOfBoundsException" ∧ f = 3) ∨ (X = "java/lang/IndexOutOfBoundsException" ∧ f = 3)
set_option maxHeartbeats 4000000 in
theorem ev_X2_tried {w : WE} {A : Hp} {x : XT} {S : ST} {a ci kf d' mc' ms' : Nat} {fs : List Value} {M' : MI} {res : Int32 × ST} (hx : XS w A x S) (ha : a ≠ wb w) (hA : A.1 a = some (.inr (ci, fs))) (hg : SiteG "ThirdEbb$Act" 3 ci kf) (hkf : fs[kf]? = some (.ref (wb w))) (hS : SiteY "ThirdEbb$Act" 19 ci ⟨"ThirdEbb$Act", "done", "()I"⟩ "ThirdEbb$Act" M' none 0) (hL : M'.2.2.1 ≤ 40) (hd1 : 1 ≤ d')
    (hE : ∀ (A1 : Hp) (x1 : XT), XS w A1 x1 (sF S (nI 0)) → Fx w A A1 → A.2 ≤ A1.2 → A1.1 a = some (.inr (ci, fs)) → (∀ q, q ≠ wb w → A1.1 q = A.1 q) → EvY w M' none d' mc' ms' [.ref a] A1 (fun v A' => v = some (.int res.1) ∧ ∃ x' : XT, XS w A' x' res.2 ∧ Fx w A1 A') (fun X A' => ∃ (f : Nat) (x' : XT), XC X f ∧ XS w A' x' (sF S (nI 0)) ∧ Fx w A1 A' ∧ A'.1 a = some (.inr (ci, fs)) ∧ res = (fl f, sF S (nI f)))) :
    EvY w mX2_tried (some [(8, 12, 13, 23), (8, 12, 23, 29), (8, 12, 23, 31), (8, 12, 33, 33), (8, 12, 43, 35)]) (d' + 1) mc' ms' [.ref a] A (fun v A' => v = some (.int res.1) ∧ ∃ x' : XT, XS w A' x' res.2 ∧ Fx w A A') noT := by
  refine EvY.mk 1 [some (.ref a), none] rfl plX2 (Nat.le_of_ble_eq_true rfl) ?_
  refine r_aload_n 1 dX2_tried_0 rfl rfl lo0 ?_
  refine r_get 4 dX2_tried_1 rfl hg hA hkf ?_
  refine r_iconst 5 dX2_tried_4 rfl ic_0 ?_
  refine r_putN 8 dX2_tried_5 rfl gN_X2_15_0 cw_0 fw_0_12 hx.t (Nat.le_refl _) rfl (Nat.le_of_ble_eq_true rfl) rfl rfl ?_
  have hx1 := hx.fault (nI 0)
  have hF1 : Fx w A (hp_up A (wb w) (.inr (0, xf (wb w) (va_up x.1 12 (nI 0))))) := Fx.rf.atw _
  have hA1 : (hp_up A (wb w) (.inr (0, xf (wb w) (va_up x.1 12 (nI 0))))).1 a = some (.inr (ci, fs)) := (hp_up_n ha).trans hA
  refine r_aload_n 9 dX2_tried_8 rfl rfl lo0 ?_
  refine r_yU (As := []) rfl 12 dX2_tried_9 rfl hS hA1 (cOk_of (by show d' + 1 ≤ d' + 1; omega) (by show _ ≤ 11000 + 64 * (d' + 1); omega) (by show 0 + mc' ≤ mc'; omega) (by show 0 + ms' ≤ ms'; omega) (by decide)) rfl (hE _ _ hx1 hF1 (Nat.le_refl _) hA1 (fun q hq => hp_up_n hq)) (fun v A' hQ => ?_) (fun X A' hQ => ?_)
  · obtain ⟨rfl, x', hx', hF'⟩ := hQ
    exact r_ok (r_iret dX2_tried_12 rfl (by omega) (by omega) ⟨rfl, x', hx', hF1.tr hF'⟩)
  obtain ⟨f, x', hc, hx', hF', hA', rfl⟩ := hQ
  rcases hc with ⟨rfl, rfl⟩ | ⟨rfl, rfl⟩ | ⟨rfl, rfl⟩ | ⟨rfl, rfl⟩ | ⟨rfl, rfl⟩ | ⟨rfl, rfl⟩
  · refine rt_catch (pre := []) (x1 := 8) (x2 := 12) (hp := 13) (ct := 23) (post := [(8, 12, 23, 29), (8, 12, 23, 31), (8, 12, 33, 33), (8, 12, 43, 35)]) (lw_all_tbl q800) rfl (by decide) q801 (fun s hK => hK.1 _ (q692)) (fun s hK y hy => by cases hy) (fun aa => ?_)
    refine r_astore_n 14 dX2_tried_13 rfl rfl rfl (by rfl) ?_
    refine r_aload_n 15 dX2_tried_14 rfl rfl lo0 ?_
    refine r_get 18 dX2_tried_15 rfl hg hA' hkf ?_
    refine r_iconst 19 dX2_tried_18 rfl ic_1 ?_
    refine rx_NV1x 22 dX2_tried_19 rfl sNV_X2_25_0 hx'.t (cOk_of (by show 1 + 1 ≤ d' + 1; omega) (by show _ ≤ 11000 + 64 * (d' + 1); dsimp only; omega) (by show 0 + mc' + 0 ≤ mc'; omega) (by show 0 + ms' + 0 ≤ ms'; omega) (by decide)) (ev_X0_fails (v := 1) (by decide) hx') (fun A9 hP => ?_)
    obtain ⟨x9, hx9, hF9⟩ := hP
    exact r_ok (r_iret dX2_tried_22 rfl (by omega) (by omega) ⟨rfl, x9, hx9, (hF1.tr hF').tr hF9⟩)
  · refine rt_catch (pre := [(8, 12, 13, 23)]) (x1 := 8) (x2 := 12) (hp := 23) (ct := 29) (post := [(8, 12, 23, 31), (8, 12, 33, 33), (8, 12, 43, 35)]) (lw_all_tbl q800) rfl (by decide) q802 (fun s hK => hK.1 _ (q736)) (fun s hK y hy => by
        simp only [List.mem_cons, List.not_mem_nil, or_false] at hy
        subst hy
        exact ⟨by decide, _, q801, (an1 (an2 (an2 (an1 (an2 (an2 (an1 (an1 (an1 (an2 hK.2.1))))))))))⟩) (fun aa => ?_)
    refine r_astore_n 24 dX2_tried_23 rfl rfl rfl (by rfl) ?_
    refine r_aload_n 25 dX2_tried_24 rfl rfl lo0 ?_
    refine r_get 28 dX2_tried_25 rfl hg hA' hkf ?_
    refine r_iconst 29 dX2_tried_28 rfl ic_2 ?_
    refine rx_NV1x 32 dX2_tried_29 rfl sNV_X2_25_0 hx'.t (cOk_of (by show 1 + 1 ≤ d' + 1; omega) (by show _ ≤ 11000 + 64 * (d' + 1); dsimp only; omega) (by show 0 + mc' + 0 ≤ mc'; omega) (by show 0 + ms' + 0 ≤ ms'; omega) (by decide)) (ev_X0_fails (v := 2) (by decide) hx') (fun A9 hP => ?_)
    obtain ⟨x9, hx9, hF9⟩ := hP
    exact r_ok (r_iret dX2_tried_32 rfl (by omega) (by omega) ⟨rfl, x9, hx9, (hF1.tr hF').tr hF9⟩)
  · refine rt_catch (pre := [(8, 12, 13, 23), (8, 12, 23, 29)]) (x1 := 8) (x2 := 12) (hp := 23) (ct := 31) (post := [(8, 12, 33, 33), (8, 12, 43, 35)]) (lw_all_tbl q800) rfl (by decide) q803 (fun s hK => hK.1 _ (q815)) (fun s hK y hy => by
        simp only [List.mem_cons, List.not_mem_nil, or_false] at hy
        rcases hy with rfl | rfl
        · exact ⟨by decide, _, q801, (an2 (an2 (an2 (an1 (an2 (an2 (an1 (an1 (an1 (an2 hK.2.1))))))))))⟩
        · exact ⟨by decide, _, q802, (an1 (an2 (an1 (an2 (an1 (an2 (an2 (an1 (an1 (an2 hK.2.1))))))))))⟩) (fun aa => ?_)
    refine r_astore_n 24 dX2_tried_23 rfl rfl rfl (by rfl) ?_
    refine r_aload_n 25 dX2_tried_24 rfl rfl lo0 ?_
    refine r_get 28 dX2_tried_25 rfl hg hA' hkf ?_
    refine r_iconst 29 dX2_tried_28 rfl ic_2 ?_
    refine rx_NV1x 32 dX2_tried_29 rfl sNV_X2_25_0 hx'.t (cOk_of (by show 1 + 1 ≤ d' + 1; omega) (by show _ ≤ 11000 + 64 * (d' + 1); dsimp only; omega) (by show 0 + mc' + 0 ≤ mc'; omega) (by show 0 + ms' + 0 ≤ ms'; omega) (by decide)) (ev_X0_fails (v := 2) (by decide) hx') (fun A9 hP => ?_)
    obtain ⟨x9, hx9, hF9⟩ := hP
    exact r_ok (r_iret dX2_tried_32 rfl (by omega) (by omega) ⟨rfl, x9, hx9, (hF1.tr hF').tr hF9⟩)
  · refine rt_catch (pre := [(8, 12, 13, 23), (8, 12, 23, 29), (8, 12, 23, 31)]) (x1 := 8) (x2 := 12) (hp := 33) (ct := 33) (post := [(8, 12, 43, 35)]) (lw_all_tbl q800) rfl (by decide) q817 (fun s hK => hK.1 _ (q613)) (fun s hK y hy => by
        simp only [List.mem_cons, List.not_mem_nil, or_false] at hy
        rcases hy with rfl | rfl | rfl
        · exact ⟨by decide, _, q801, (an1 (an1 (an2 (an2 (an2 (an1 (an1 (an1 (an2 hK.2.1)))))))))⟩
        · exact ⟨by decide, _, q802, (an2 (an2 (an1 (an2 (an1 (an2 (an2 (an1 (an1 (an2 hK.2.1))))))))))⟩
        · exact ⟨by decide, _, q803, (an1 (an2 (an2 (an1 (an1 (an1 (an1 (an2 (an1 (an2 hK.2.1))))))))))⟩) (fun aa => ?_)
    refine r_astore_n 34 dX2_tried_33 rfl rfl rfl (by rfl) ?_
    refine r_aload_n 35 dX2_tried_34 rfl rfl lo0 ?_
    refine r_get 38 dX2_tried_35 rfl hg hA' hkf ?_
    refine r_iconst 39 dX2_tried_38 rfl ic_4 ?_
    refine rx_NV1x 42 dX2_tried_39 rfl sNV_X2_25_0 hx'.t (cOk_of (by show 1 + 1 ≤ d' + 1; omega) (by show _ ≤ 11000 + 64 * (d' + 1); dsimp only; omega) (by show 0 + mc' + 0 ≤ mc'; omega) (by show 0 + ms' + 0 ≤ ms'; omega) (by decide)) (ev_X0_fails (v := 4) (by decide) hx') (fun A9 hP => ?_)
    obtain ⟨x9, hx9, hF9⟩ := hP
    exact r_ok (r_iret dX2_tried_42 rfl (by omega) (by omega) ⟨rfl, x9, hx9, (hF1.tr hF').tr hF9⟩)
  · refine rt_catch (pre := [(8, 12, 13, 23), (8, 12, 23, 29), (8, 12, 23, 31), (8, 12, 33, 33)]) (x1 := 8) (x2 := 12) (hp := 43) (ct := 35) (post := []) (lw_all_tbl q800) rfl (by decide) q818 (fun s hK => hK.1 _ (q1496)) (fun s hK y hy => by
        simp only [List.mem_cons, List.not_mem_nil, or_false] at hy
        rcases hy with rfl | rfl | rfl | rfl
        · exact ⟨by decide, _, q801, (an1 (an2 (an1 (an2 (an2 (an2 (an1 (an1 (an1 (an2 hK.2.1))))))))))⟩
        · exact ⟨by decide, _, q802, (an1 (an2 (an2 (an1 (an2 (an2 (an1 (an1 (an2 hK.2.1)))))))))⟩
        · exact ⟨by decide, _, q803, (an2 (an2 (an2 (an1 (an1 (an1 (an1 (an2 (an1 (an2 hK.2.1))))))))))⟩
        · exact ⟨by decide, _, q817, (an2 (an2 (an2 (an2 (an2 (an1 (an1 (an1 (an1 (an2 hK.2.1))))))))))⟩) (fun aa => ?_)
    refine r_astore_n 44 dX2_tried_43 rfl rfl rfl (by rfl) ?_
    refine r_aload_n 45 dX2_tried_44 rfl rfl lo0 ?_
    refine r_get 48 dX2_tried_45 rfl hg hA' hkf ?_
    refine r_iconst 49 dX2_tried_48 rfl ic_3 ?_
    refine rx_NV1x 52 dX2_tried_49 rfl sNV_X2_25_0 hx'.t (cOk_of (by show 1 + 1 ≤ d' + 1; omega) (by show _ ≤ 11000 + 64 * (d' + 1); dsimp only; omega) (by show 0 + mc' + 0 ≤ mc'; omega) (by show 0 + ms' + 0 ≤ ms'; omega) (by decide)) (ev_X0_fails (v := 3) (by decide) hx') (fun A9 hP => ?_)
    obtain ⟨x9, hx9, hF9⟩ := hP
    exact r_ok (r_iret dX2_tried_52 rfl (by omega) (by omega) ⟨rfl, x9, hx9, (hF1.tr hF').tr hF9⟩)
  · refine rt_catch (pre := [(8, 12, 13, 23), (8, 12, 23, 29), (8, 12, 23, 31), (8, 12, 33, 33)]) (x1 := 8) (x2 := 12) (hp := 43) (ct := 35) (post := []) (lw_all_tbl q800) rfl (by decide) q818 (fun s hK => hK.1 _ (q836)) (fun s hK y hy => by
        simp only [List.mem_cons, List.not_mem_nil, or_false] at hy
        rcases hy with rfl | rfl | rfl | rfl
        · exact ⟨by decide, _, q801, (an2 (an2 (an1 (an2 (an2 (an2 (an1 (an1 (an1 (an2 hK.2.1))))))))))⟩
        · exact ⟨by decide, _, q802, (an1 (an2 (an2 (an2 (an1 (an2 (an2 (an1 (an1 (an2 hK.2.1))))))))))⟩
        · exact ⟨by decide, _, q803, (an1 (an1 (an2 (an1 (an1 (an1 (an2 (an1 (an2 hK.2.1)))))))))⟩
        · exact ⟨by decide, _, q817, (an1 (an1 (an1 (an1 (an2 (an1 (an1 (an1 (an2 hK.2.1)))))))))⟩) (fun aa => ?_)
    refine r_astore_n 44 dX2_tried_43 rfl rfl rfl (by rfl) ?_
    refine r_aload_n 45 dX2_tried_44 rfl rfl lo0 ?_
    refine r_get 48 dX2_tried_45 rfl hg hA' hkf ?_
    refine r_iconst 49 dX2_tried_48 rfl ic_3 ?_
    refine rx_NV1x 52 dX2_tried_49 rfl sNV_X2_25_0 hx'.t (cOk_of (by show 1 + 1 ≤ d' + 1; omega) (by show _ ≤ 11000 + 64 * (d' + 1); dsimp only; omega) (by show 0 + mc' + 0 ≤ mc'; omega) (by show 0 + ms' + 0 ≤ ms'; omega) (by decide)) (ev_X0_fails (v := 3) (by decide) hx') (fun A9 hP => ?_)
    obtain ⟨x9, hx9, hF9⟩ := hP
    exact r_ok (r_iret dX2_tried_52 rfl (by omega) (by omega) ⟨rfl, x9, hx9, (hF1.tr hF').tr hF9⟩)
