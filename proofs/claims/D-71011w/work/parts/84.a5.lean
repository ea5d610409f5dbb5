/-! PromiseTailor's side: keeping, lie, letting, seen, back, forget -/
set_option maxRecDepth 100000
theorem nI_cap {n c : Nat} (hn : n < 2 ^ 31) (hc : c < 2 ^ 31) (h : ¬ nI n = nI c) : n ≠ c := fun e => h (by rw [e])
theorem l64_7 : (7 : Int64) = (nI 7).toInt64 := by decide +kernel
theorem l64_9 : (9 : Int64) = (nI 9).toInt64 := by decide +kernel
theorem l64_2 : (2 : Int64) = (nI 2).toInt64 := by decide +kernel
theorem l64_99 : (99 : Int64) = (nI 99).toInt64 := by decide +kernel
theorem XY_ct {G X : xSt} (h : XY G X) : cnt X 2 = vN (G 10 0) ∧ cnt X 3 = vN (G 13 0) ∧ cnt X 4 = vN (G 17 0) ∧ cnt X 5 = vN (G 34 0) ∧ G 10 0 = nI (cnt X 2) ∧ G 13 0 = nI (cnt X 3) ∧ G 17 0 = nI (cnt X 4) ∧ G 34 0 = nI (cnt X 5) ∧ cnt X 2 ≤ 8 ∧ cnt X 3 ≤ 6 ∧ cnt X 4 ≤ 6 ∧ cnt X 5 ≤ 8 := by
  have e10 : X 10 0 = G 10 0 := h.2.2.1
  have e13 : X 13 0 = G 13 0 := congrFun (h.2.1 13 (by unfold cj; omega)) 0
  have e17 : X 17 0 = G 17 0 := congrFun (h.2.1 17 (by unfold cj; omega)) 0
  have e34 : X 34 0 = G 34 0 := congrFun (h.2.1 34 (by unfold cj; omega)) 0
  obtain ⟨-, -, -, -, -, -, -, -, -, -, b2, b3, b4, b5⟩ := h.1
  have c2 := bd_v b2 (by decide)
  have c3 := bd_v b3 (by decide)
  have c4 := bd_v b4 (by decide)
  have c5 := bd_v b5 (by decide)
  rw [← e10, ← e13, ← e17, ← e34]
  exact ⟨rfl, rfl, rfl, rfl, c2.1, c3.1, c4.1, c5.1, c2.2, c3.2, c4.2, c5.2⟩

set_option maxHeartbeats 400000 in
theorem x_keeping (l : Launch) {G X : xSt} (h : XR G X) (hM : MI G) (d p : Int32) : Cz l yX0_keeping (ws_ yX0_keeping cX0_keeping 3 (some .int)) 7 2 14 (aF 2) [.ref 0, .int d, .int p] X (fun r X' => ∃ x, r = some (.int x) ∧ x = (keepingP d p G).1 ∧ XR (keepingP d p G).2 X') := by
  refine Cz_start (ls := [some (.ref 0), some (.int d), some (.int p)]) (by decide) rfl (Nat.le_of_ble_eq_true rfl) (aF_lo (by decide)) ?_
  intro Q hQ
  have hy := XR_XY h
  obtain ⟨t2, t3, t4, t5, g2, g3, g4, g5, u2, u3, u4, u5⟩ := XY_ct hy
  have hl := hy.1.2.1
  have hc0 : std X 2 = cnt X 2 := hy.2.2.2.2.1
  refine V_iload_n dX0_keeping_0 rfl ?_
  refine Vs_callIF (s_isDay l _) dX0_keeping_1 (lw_S q720 q721 q95 q722) hs_X0_isDay (by decide) rfl (Nat.le_of_ble_eq_true rfl) ?_
  refine V_if_eqB (tgt := 19) dX0_keeping_4 (by decide) (fun c4 => ?_) (fun c4 => ?_)
  · refine V_bipush dX0_keeping_19 lb_m2 ?_
    exact V_ireturn dX0_keeping_21 rfl (hQ _ _ ⟨_, rfl, ⟨by unfold keepingP; rw [if_neg c4], by unfold keepingP; rw [if_neg c4]; exact h⟩⟩)
  · refine V_iload_n dX0_keeping_7 rfl ?_
    refine V_i2l dX0_keeping_8 rfl ?_
    refine V_lconst (v := 0) dX0_keeping_9 (by rfl) ?_
    refine V_ldc2 dX0_keeping_10 q724 ?_
    refine Vs_callIF (s_in l _ _ _) dX0_keeping_13 (lw_S q307 q308 q95 q309) hs_X0_in (by decide) rfl (Nat.le_of_ble_eq_true rfl) ?_
    refine V_if_neB (tgt := 22) dX0_keeping_16 (by decide) (fun c16 => ?_) (fun c16 => ?_)
    · have c16b : (nI 0 ≤ p ∧ p ≤ nI 9) := by rw [l64_0, l64_9] at c16; exact (i64_in _ _ _).mp c16
      refine V_aload_n dX0_keeping_22 rfl ?_
      refine V_getf (i := 3) k_X0 dX0_keeping_23 (by decide) q230 (wX_obj _) rfl ?_
      refine V_size (q := 2) (hl 2 (by decide)) dX0_keeping_26 (lw_V q725 q365 q366 q100 q367) (Nat.le_of_ble_eq_true rfl) (by decide) ?_
      refine V_bipush dX0_keeping_29 lb_8 ?_
      refine V_icmp_ne (tgt := 37) dX0_keeping_31 (by decide) (fun c31 => ?_) (fun c31 => ?_)
      · have ccap : ¬ nI (cnt X 2) = nI 8 := fun z => c31 z
        obtain ⟨n, hc⟩ : ∃ n, cnt X 2 = n := ⟨_, rfl⟩
        have hn : n < 8 := by have := nI_cap (by omega) (by decide) ccap; omega
        rw [hc] at hc0
        have hF : keepingP d p G = (nI (n + 1), mwr (mwr (mwr G 11 n d) 12 n p) 10 0 (nI (n + 1))) := by unfold keepingP; rw [if_pos c4, if_pos c16b, if_neg (show ¬ G 10 0 = nI 8 from fun z => ccap (by rw [← g2]; exact z))]; unfold keepingT; rw [← t2, hc]
        have hMF : MI ((nI (n + 1), mwr (mwr (mwr G 11 n d) 12 n p) 10 0 (nI (n + 1)))).2 := by rw [← hF]; exact MI_keeping hM _ _
        obtain ⟨a1, a2, a3, a4, a5, a6, a7, a8⟩ := XY_add2 hy hc hn d p (bd_I (by decide) c16b)
        refine V_aload_n dX0_keeping_37 rfl ?_
        refine V_getf (i := 3) k_X0 dX0_keeping_38 (by decide) q230 (wX_obj _) rfl ?_
        refine V_iconst dX0_keeping_41 li_2 ?_
        refine V_newa (k' := 1) (n' := 10) (N := 2) (f := cutI 2 (fun i => 0)) (1216 + n) rfl dX0_keeping_42 q226 (by decide +kernel) (by decide +kernel) (by decide) (fun j hj => cutI_at hj) (wX_ke0 _ (by omega) (by omega)) (.inr ⟨by omega, by omega⟩) (fun m d hd => wX_nr hy.1.1.2 (tgt_el hy.1.1 hy.2.2.2.2.2.2.2.2.2.2.2 (q := 2) (by decide) (Nat.le_of_eq hc) (by omega)) hd) (nel_c (ne_r (by omega)) (nel_c ne_i (nel_c ne_i nel_0))) (nes_c (ne_r (by omega)) nes_0) ⟨by decide, by decide⟩ ?_
        refine V_dup dX0_keeping_44 rfl ?_
        refine V_iconst dX0_keeping_45 li_0 ?_
        refine V_iload_n dX0_keeping_46 rfl ?_
        refine V_iast dX0_keeping_47 upw_self (vp_in_nI (show 0 < 2 by decide) (by decide)) ?_
        rw [nI_clamp (by decide), upw_upw, cutI_up (by decide)]
        refine V_dup dX0_keeping_48 rfl ?_
        refine V_iconst dX0_keeping_49 li_1 ?_
        refine V_iload_n dX0_keeping_50 rfl ?_
        refine V_iast dX0_keeping_51 upw_self (vp_in_nI (show 1 < 2 by decide) (by decide)) ?_
        rw [nI_clamp (by decide), upw_upw, cutI_up (by decide)]
        rw [wk2 (by omega) (by omega)]
        refine V_add (k' := 0) (n' := 0) (q := 2) (v := 1216 + n) (C := "[I") a2 (by omega) (by rw [a3]; exact a5) (.inr ⟨_, _, _, wX_ke _ (by omega) (by omega), by decide⟩) (nw q1721 rfl) (by decide) (fun z0 m d hd => wX_nr a1.2 (tgt_da a1 (by decide) z0) hd) dX0_keeping_52 (lw_V q726 q591 q592 q100 q593) (fun _ => .inl rfl) (fun _ => (nel_c (ne_r (by decide)) (nel_c ne_i (nel_c ne_i nel_0)))) (fun _ => nes_0) (by decide) (Nat.le_of_ble_eq_true rfl) ⟨fun _ => ⟨Nat.le_refl _, Nat.le_refl _⟩, by decide, by decide⟩ ?_
        refine V_pop dX0_keeping_55 rfl ?_
        refine V_aload_n dX0_keeping_56 rfl ?_
        refine V_getf (i := 3) k_X0 dX0_keeping_57 (by decide) q230 (wX_obj _) rfl ?_
        refine V_size (q := 2) (a6) dX0_keeping_60 (lw_V q725 q365 q366 q100 q367) (Nat.le_of_ble_eq_true rfl) (by decide) ?_
        rw [a7]
        exact V_ireturn dX0_keeping_63 rfl (hQ _ _ ⟨_, rfl, ⟨by rw [hF], by rw [hF]; exact XY_XR hMF a8⟩⟩)
      · have ccap : nI (cnt X 2) = nI 8 := c31
        refine V_bipush dX0_keeping_34 lb_m4 ?_
        exact V_ireturn dX0_keeping_36 rfl (hQ _ _ ⟨_, rfl, ⟨by unfold keepingP; rw [if_pos c4, if_pos c16b, if_pos (show G 10 0 = nI 8 by rw [g2, ccap])], by unfold keepingP; rw [if_pos c4, if_pos c16b, if_pos (show G 10 0 = nI 8 by rw [g2, ccap])]; exact h⟩⟩)
    · have c16b : ¬ (nI 0 ≤ p ∧ p ≤ nI 9) := by rw [l64_0, l64_9] at c16; exact fun z => c16 ((i64_in _ _ _).mpr z)
      refine V_bipush dX0_keeping_19 lb_m2 ?_
      exact V_ireturn dX0_keeping_21 rfl (hQ _ _ ⟨_, rfl, ⟨by unfold keepingP; rw [if_pos c4, if_neg c16b], by unfold keepingP; rw [if_pos c4, if_neg c16b]; exact h⟩⟩)
set_option maxHeartbeats 400000 in
theorem x_more3 (l : Launch) {G X : xSt} (h : XR G X) (hM : MI G) (d k m : Int32) : Cz l yX0_more (ws_ yX0_more cX0_more 5 (some .int)) 7 2 14 (aF 3) [.ref 195, .int (nI 6), .int d, .int k, .int m] X (fun r X' => ∃ x, r = some (.int x) ∧ x = (add3P 13 14 6 1 9 d k m G).1 ∧ XR (add3P 13 14 6 1 9 d k m G).2 X') := by
  refine Cz_start (ls := [some (.ref 195), some (.int (nI 6)), some (.int d), some (.int k), some (.int m)]) (by decide) rfl (Nat.le_of_ble_eq_true rfl) (aF_lo (by decide)) ?_
  intro Q hQ
  have hy := XR_XY h
  obtain ⟨t2, t3, t4, t5, g2, g3, g4, g5, u2, u3, u4, u5⟩ := XY_ct hy
  have hl := hy.1.2.1
  have hc0 : std X 3 = cnt X 3 := (hy.1.2.2.2.2.2.2.2.1 3 (by decide) (by decide))
  refine V_iload_n dX0_more_0 rfl ?_
  refine Vs_callIF (s_isDay l _) dX0_more_1 (lw_S q720 q721 q95 q722) hs_X0_isDay (by decide) rfl (Nat.le_of_ble_eq_true rfl) ?_
  refine V_if_eqB (tgt := 32) dX0_more_4 (by decide) (fun c4 => ?_) (fun c4 => ?_)
  · refine V_bipush dX0_more_32 lb_m2 ?_
    exact V_ireturn dX0_more_34 rfl (hQ _ _ ⟨_, rfl, ⟨by unfold add3P; rw [if_neg c4], by unfold add3P; rw [if_neg c4]; exact h⟩⟩)
  · refine V_iload_n dX0_more_7 rfl ?_
    refine V_i2l dX0_more_8 rfl ?_
    refine V_lconst (v := 0) dX0_more_9 (by rfl) ?_
    refine V_ldc2 dX0_more_10 q734 ?_
    refine Vs_callIF (s_in l _ _ _) dX0_more_13 (lw_S q307 q308 q95 q309) hs_X0_in (by decide) rfl (Nat.le_of_ble_eq_true rfl) ?_
    refine V_if_eqB (tgt := 32) dX0_more_16 (by decide) (fun c16 => ?_) (fun c16 => ?_)
    · have c16b : ¬ (nI 0 ≤ k ∧ k ≤ nI 7) := by rw [l64_0, l64_7] at c16; exact fun z => c16 ((i64_in _ _ _).mpr z)
      refine V_bipush dX0_more_32 lb_m2 ?_
      exact V_ireturn dX0_more_34 rfl (hQ _ _ ⟨_, rfl, ⟨by unfold add3P; rw [if_pos c4, if_neg c16b], by unfold add3P; rw [if_pos c4, if_neg c16b]; exact h⟩⟩)
    · have c16b : (nI 0 ≤ k ∧ k ≤ nI 7) := by rw [l64_0, l64_7] at c16; exact (i64_in _ _ _).mp c16
      refine V_iload dX0_more_19 rfl ?_
      refine V_i2l dX0_more_21 rfl ?_
      refine V_lconst (v := 1) dX0_more_22 (by rfl) ?_
      refine V_ldc2 dX0_more_23 q724 ?_
      refine Vs_callIF (s_in l _ _ _) dX0_more_26 (lw_S q307 q308 q95 q309) hs_X0_in (by decide) rfl (Nat.le_of_ble_eq_true rfl) ?_
      refine V_if_neB (tgt := 35) dX0_more_29 (by decide) (fun c29 => ?_) (fun c29 => ?_)
      · have c29b : (nI 1 ≤ m ∧ m ≤ nI 9) := by rw [l64_1, l64_9] at c29; exact (i64_in _ _ _).mp c29
        refine V_aload_n dX0_more_35 rfl ?_
        refine V_size (q := 3) (hl 3 (by decide)) dX0_more_36 (lw_V q725 q365 q366 q100 q367) (Nat.le_of_ble_eq_true rfl) (by decide) ?_
        refine V_iload_n dX0_more_39 rfl ?_
        refine V_icmp_ne (tgt := 46) dX0_more_40 (by decide) (fun c40 => ?_) (fun c40 => ?_)
        · have ccap : ¬ nI (cnt X 3) = nI 6 := fun z => c40 z
          obtain ⟨n, hc⟩ : ∃ n, cnt X 3 = n := ⟨_, rfl⟩
          have hn : n < 6 := by have := nI_cap (by omega) (by decide) ccap; omega
          rw [hc] at hc0
          have hF : add3P 13 14 6 1 9 d k m G = (nI (n + 1), mwr (mwr (mwr (mwr G 14 n d) 15 n k) 16 n m) 13 0 (nI (n + 1))) := by unfold add3P; rw [if_pos c4, if_pos c16b, if_pos c29b, if_neg (show ¬ G 13 0 = nI 6 from fun z => ccap (by rw [← g3]; exact z))]; unfold add3; rw [← t3, hc]
          have hMF : MI ((nI (n + 1), mwr (mwr (mwr (mwr G 14 n d) 15 n k) 16 n m) 13 0 (nI (n + 1)))).2 := by rw [← hF]; exact MI_lie hM _ _ _
          obtain ⟨a1, a2, a3, a4, a5, a6, a7, a8⟩ := XY_add3 hy hc hn d k m
          refine V_aload_n dX0_more_46 rfl ?_
          refine V_iconst dX0_more_47 li_3 ?_
          refine V_newa (k' := 1) (n' := 10) (N := 3) (f := cutI 3 (fun i => 0)) (1280 + n) rfl dX0_more_48 q226 (by decide +kernel) (by decide +kernel) (by decide) (fun j hj => cutI_at hj) (wX_ly0 _ (by omega) (by omega)) (.inr ⟨by omega, by omega⟩) (fun m d hd => wX_nr hy.1.1.2 (tgt_el hy.1.1 hy.2.2.2.2.2.2.2.2.2.2.2 (q := 3) (by decide) (Nat.le_of_eq hc) (by omega)) hd) (nel_c (ne_r (by omega)) (nel_c ne_i (nel_c ne_i (nel_c ne_i (nel_c ne_i nel_0))))) (nes_c (ne_r (by omega)) nes_0) ⟨by decide, by decide⟩ ?_
          refine V_dup dX0_more_50 rfl ?_
          refine V_iconst dX0_more_51 li_0 ?_
          refine V_iload_n dX0_more_52 rfl ?_
          refine V_iast dX0_more_53 upw_self (vp_in_nI (show 0 < 3 by decide) (by decide)) ?_
          rw [nI_clamp (by decide), upw_upw, cutI_up (by decide)]
          refine V_dup dX0_more_54 rfl ?_
          refine V_iconst dX0_more_55 li_1 ?_
          refine V_iload_n dX0_more_56 rfl ?_
          refine V_iast dX0_more_57 upw_self (vp_in_nI (show 1 < 3 by decide) (by decide)) ?_
          rw [nI_clamp (by decide), upw_upw, cutI_up (by decide)]
          refine V_dup dX0_more_58 rfl ?_
          refine V_iconst dX0_more_59 li_2 ?_
          refine V_iload dX0_more_60 rfl ?_
          refine V_iast dX0_more_62 upw_self (vp_in_nI (show 2 < 3 by decide) (by decide)) ?_
          rw [nI_clamp (by decide), upw_upw, cutI_up (by decide)]
          rw [wk3 (by omega) (by omega)]
          refine V_add (k' := 0) (n' := 0) (q := 3) (v := 1280 + n) (C := "[I") a2 (by omega) (by rw [a3]; exact a5) (.inr ⟨_, _, _, wX_ly _ (by omega) (by omega), by decide⟩) (nw q1721 rfl) (by decide) (fun z0 m d hd => wX_nr a1.2 (tgt_da a1 (by decide) z0) hd) dX0_more_63 (lw_V q726 q591 q592 q100 q593) (fun _ => .inl rfl) (fun _ => (nel_c (ne_r (by decide)) (nel_c ne_i (nel_c ne_i (nel_c ne_i (nel_c ne_i nel_0)))))) (fun _ => nes_0) (by decide) (Nat.le_of_ble_eq_true rfl) ⟨fun _ => ⟨Nat.le_refl _, Nat.le_refl _⟩, by decide, by decide⟩ ?_
          refine V_pop dX0_more_66 rfl ?_
          refine V_aload_n dX0_more_67 rfl ?_
          refine V_size (q := 3) (a6) dX0_more_68 (lw_V q725 q365 q366 q100 q367) (Nat.le_of_ble_eq_true rfl) (by decide) ?_
          rw [a7]
          exact V_ireturn dX0_more_71 rfl (hQ _ _ ⟨_, rfl, ⟨by rw [hF], by rw [hF]; exact XY_XR hMF a8⟩⟩)
        · have ccap : nI (cnt X 3) = nI 6 := c40
          refine V_bipush dX0_more_43 lb_m4 ?_
          exact V_ireturn dX0_more_45 rfl (hQ _ _ ⟨_, rfl, ⟨by unfold add3P; rw [if_pos c4, if_pos c16b, if_pos c29b, if_pos (show G 13 0 = nI 6 by rw [g3, ccap])], by unfold add3P; rw [if_pos c4, if_pos c16b, if_pos c29b, if_pos (show G 13 0 = nI 6 by rw [g3, ccap])]; exact h⟩⟩)
      · have c29b : ¬ (nI 1 ≤ m ∧ m ≤ nI 9) := by rw [l64_1, l64_9] at c29; exact fun z => c29 ((i64_in _ _ _).mpr z)
        refine V_bipush dX0_more_32 lb_m2 ?_
        exact V_ireturn dX0_more_34 rfl (hQ _ _ ⟨_, rfl, ⟨by unfold add3P; rw [if_pos c4, if_pos c16b, if_neg c29b], by unfold add3P; rw [if_pos c4, if_pos c16b, if_neg c29b]; exact h⟩⟩)
set_option maxHeartbeats 400000 in
theorem x_more4 (l : Launch) {G X : xSt} (h : XR G X) (hM : MI G) (d k m : Int32) : Cz l yX0_more (ws_ yX0_more cX0_more 5 (some .int)) 7 2 14 (aF 4) [.ref 196, .int (nI 6), .int d, .int k, .int m] X (fun r X' => ∃ x, r = some (.int x) ∧ x = (add3P 17 18 6 1 9 d k m G).1 ∧ XR (add3P 17 18 6 1 9 d k m G).2 X') := by
  refine Cz_start (ls := [some (.ref 196), some (.int (nI 6)), some (.int d), some (.int k), some (.int m)]) (by decide) rfl (Nat.le_of_ble_eq_true rfl) (aF_lo (by decide)) ?_
  intro Q hQ
  have hy := XR_XY h
  obtain ⟨t2, t3, t4, t5, g2, g3, g4, g5, u2, u3, u4, u5⟩ := XY_ct hy
  have hl := hy.1.2.1
  have hc0 : std X 4 = cnt X 4 := (hy.1.2.2.2.2.2.2.2.1 4 (by decide) (by decide))
  refine V_iload_n dX0_more_0 rfl ?_
  refine Vs_callIF (s_isDay l _) dX0_more_1 (lw_S q720 q721 q95 q722) hs_X0_isDay (by decide) rfl (Nat.le_of_ble_eq_true rfl) ?_
  refine V_if_eqB (tgt := 32) dX0_more_4 (by decide) (fun c4 => ?_) (fun c4 => ?_)
  · refine V_bipush dX0_more_32 lb_m2 ?_
    exact V_ireturn dX0_more_34 rfl (hQ _ _ ⟨_, rfl, ⟨by unfold add3P; rw [if_neg c4], by unfold add3P; rw [if_neg c4]; exact h⟩⟩)
  · refine V_iload_n dX0_more_7 rfl ?_
    refine V_i2l dX0_more_8 rfl ?_
    refine V_lconst (v := 0) dX0_more_9 (by rfl) ?_
    refine V_ldc2 dX0_more_10 q734 ?_
    refine Vs_callIF (s_in l _ _ _) dX0_more_13 (lw_S q307 q308 q95 q309) hs_X0_in (by decide) rfl (Nat.le_of_ble_eq_true rfl) ?_
    refine V_if_eqB (tgt := 32) dX0_more_16 (by decide) (fun c16 => ?_) (fun c16 => ?_)
    · have c16b : ¬ (nI 0 ≤ k ∧ k ≤ nI 7) := by rw [l64_0, l64_7] at c16; exact fun z => c16 ((i64_in _ _ _).mpr z)
      refine V_bipush dX0_more_32 lb_m2 ?_
      exact V_ireturn dX0_more_34 rfl (hQ _ _ ⟨_, rfl, ⟨by unfold add3P; rw [if_pos c4, if_neg c16b], by unfold add3P; rw [if_pos c4, if_neg c16b]; exact h⟩⟩)
    · have c16b : (nI 0 ≤ k ∧ k ≤ nI 7) := by rw [l64_0, l64_7] at c16; exact (i64_in _ _ _).mp c16
      refine V_iload dX0_more_19 rfl ?_
      refine V_i2l dX0_more_21 rfl ?_
      refine V_lconst (v := 1) dX0_more_22 (by rfl) ?_
      refine V_ldc2 dX0_more_23 q724 ?_
      refine Vs_callIF (s_in l _ _ _) dX0_more_26 (lw_S q307 q308 q95 q309) hs_X0_in (by decide) rfl (Nat.le_of_ble_eq_true rfl) ?_
      refine V_if_neB (tgt := 35) dX0_more_29 (by decide) (fun c29 => ?_) (fun c29 => ?_)
      · have c29b : (nI 1 ≤ m ∧ m ≤ nI 9) := by rw [l64_1, l64_9] at c29; exact (i64_in _ _ _).mp c29
        refine V_aload_n dX0_more_35 rfl ?_
        refine V_size (q := 4) (hl 4 (by decide)) dX0_more_36 (lw_V q725 q365 q366 q100 q367) (Nat.le_of_ble_eq_true rfl) (by decide) ?_
        refine V_iload_n dX0_more_39 rfl ?_
        refine V_icmp_ne (tgt := 46) dX0_more_40 (by decide) (fun c40 => ?_) (fun c40 => ?_)
        · have ccap : ¬ nI (cnt X 4) = nI 6 := fun z => c40 z
          obtain ⟨n, hc⟩ : ∃ n, cnt X 4 = n := ⟨_, rfl⟩
          have hn : n < 6 := by have := nI_cap (by omega) (by decide) ccap; omega
          rw [hc] at hc0
          have hF : add3P 17 18 6 1 9 d k m G = (nI (n + 1), mwr (mwr (mwr (mwr G 18 n d) 19 n k) 20 n m) 17 0 (nI (n + 1))) := by unfold add3P; rw [if_pos c4, if_pos c16b, if_pos c29b, if_neg (show ¬ G 17 0 = nI 6 from fun z => ccap (by rw [← g4]; exact z))]; unfold add3; rw [← t4, hc]
          have hMF : MI ((nI (n + 1), mwr (mwr (mwr (mwr G 18 n d) 19 n k) 20 n m) 17 0 (nI (n + 1)))).2 := by rw [← hF]; exact MI_letting hM _ _ _
          obtain ⟨a1, a2, a3, a4, a5, a6, a7, a8⟩ := XY_add4 hy hc hn d k m
          refine V_aload_n dX0_more_46 rfl ?_
          refine V_iconst dX0_more_47 li_3 ?_
          refine V_newa (k' := 1) (n' := 10) (N := 3) (f := cutI 3 (fun i => 0)) (1344 + n) rfl dX0_more_48 q226 (by decide +kernel) (by decide +kernel) (by decide) (fun j hj => cutI_at hj) (wX_lt0 _ (by omega) (by omega)) (.inr ⟨by omega, by omega⟩) (fun m d hd => wX_nr hy.1.1.2 (tgt_el hy.1.1 hy.2.2.2.2.2.2.2.2.2.2.2 (q := 4) (by decide) (Nat.le_of_eq hc) (by omega)) hd) (nel_c (ne_r (by omega)) (nel_c ne_i (nel_c ne_i (nel_c ne_i (nel_c ne_i nel_0))))) (nes_c (ne_r (by omega)) nes_0) ⟨by decide, by decide⟩ ?_
          refine V_dup dX0_more_50 rfl ?_
          refine V_iconst dX0_more_51 li_0 ?_
          refine V_iload_n dX0_more_52 rfl ?_
          refine V_iast dX0_more_53 upw_self (vp_in_nI (show 0 < 3 by decide) (by decide)) ?_
          rw [nI_clamp (by decide), upw_upw, cutI_up (by decide)]
          refine V_dup dX0_more_54 rfl ?_
          refine V_iconst dX0_more_55 li_1 ?_
          refine V_iload_n dX0_more_56 rfl ?_
          refine V_iast dX0_more_57 upw_self (vp_in_nI (show 1 < 3 by decide) (by decide)) ?_
          rw [nI_clamp (by decide), upw_upw, cutI_up (by decide)]
          refine V_dup dX0_more_58 rfl ?_
          refine V_iconst dX0_more_59 li_2 ?_
          refine V_iload dX0_more_60 rfl ?_
          refine V_iast dX0_more_62 upw_self (vp_in_nI (show 2 < 3 by decide) (by decide)) ?_
          rw [nI_clamp (by decide), upw_upw, cutI_up (by decide)]
          rw [wk4 (by omega) (by omega)]
          refine V_add (k' := 0) (n' := 0) (q := 4) (v := 1344 + n) (C := "[I") a2 (by omega) (by rw [a3]; exact a5) (.inr ⟨_, _, _, wX_lt _ (by omega) (by omega), by decide⟩) (nw q1721 rfl) (by decide) (fun z0 m d hd => wX_nr a1.2 (tgt_da a1 (by decide) z0) hd) dX0_more_63 (lw_V q726 q591 q592 q100 q593) (fun _ => .inl rfl) (fun _ => (nel_c (ne_r (by decide)) (nel_c ne_i (nel_c ne_i (nel_c ne_i (nel_c ne_i nel_0)))))) (fun _ => nes_0) (by decide) (Nat.le_of_ble_eq_true rfl) ⟨fun _ => ⟨Nat.le_refl _, Nat.le_refl _⟩, by decide, by decide⟩ ?_
          refine V_pop dX0_more_66 rfl ?_
          refine V_aload_n dX0_more_67 rfl ?_
          refine V_size (q := 4) (a6) dX0_more_68 (lw_V q725 q365 q366 q100 q367) (Nat.le_of_ble_eq_true rfl) (by decide) ?_
          rw [a7]
          exact V_ireturn dX0_more_71 rfl (hQ _ _ ⟨_, rfl, ⟨by rw [hF], by rw [hF]; exact XY_XR hMF a8⟩⟩)
        · have ccap : nI (cnt X 4) = nI 6 := c40
          refine V_bipush dX0_more_43 lb_m4 ?_
          exact V_ireturn dX0_more_45 rfl (hQ _ _ ⟨_, rfl, ⟨by unfold add3P; rw [if_pos c4, if_pos c16b, if_pos c29b, if_pos (show G 17 0 = nI 6 by rw [g4, ccap])], by unfold add3P; rw [if_pos c4, if_pos c16b, if_pos c29b, if_pos (show G 17 0 = nI 6 by rw [g4, ccap])]; exact h⟩⟩)
      · have c29b : ¬ (nI 1 ≤ m ∧ m ≤ nI 9) := by rw [l64_1, l64_9] at c29; exact fun z => c29 ((i64_in _ _ _).mpr z)
        refine V_bipush dX0_more_32 lb_m2 ?_
        exact V_ireturn dX0_more_34 rfl (hQ _ _ ⟨_, rfl, ⟨by unfold add3P; rw [if_pos c4, if_pos c16b, if_neg c29b], by unfold add3P; rw [if_pos c4, if_pos c16b, if_neg c29b]; exact h⟩⟩)
set_option maxHeartbeats 400000 in
theorem x_seen (l : Launch) {G X : xSt} (h : XR G X) (hM : MI G) (d k m : Int32) : Cz l yX0_seen (ws_ yX0_seen cX0_seen 4 (some .int)) 7 2 14 (aF 5) [.ref 0, .int d, .int k, .int m] X (fun r X' => ∃ x, r = some (.int x) ∧ x = (add3P 34 35 8 0 99 d k m G).1 ∧ XR (add3P 34 35 8 0 99 d k m G).2 X') := by
  refine Cz_start (ls := [some (.ref 0), some (.int d), some (.int k), some (.int m)]) (by decide) rfl (Nat.le_of_ble_eq_true rfl) (aF_lo (by decide)) ?_
  intro Q hQ
  have hy := XR_XY h
  obtain ⟨t2, t3, t4, t5, g2, g3, g4, g5, u2, u3, u4, u5⟩ := XY_ct hy
  have hl := hy.1.2.1
  have hc0 : std X 5 = cnt X 5 := (hy.1.2.2.2.2.2.2.2.1 5 (by decide) (by decide))
  refine V_iload_n dX0_seen_0 rfl ?_
  refine Vs_callIF (s_isDay l _) dX0_seen_1 (lw_S q720 q721 q95 q722) hs_X0_isDay (by decide) rfl (Nat.le_of_ble_eq_true rfl) ?_
  refine V_if_eqB (tgt := 31) dX0_seen_4 (by decide) (fun c4 => ?_) (fun c4 => ?_)
  · refine V_bipush dX0_seen_31 lb_m2 ?_
    exact V_ireturn dX0_seen_33 rfl (hQ _ _ ⟨_, rfl, ⟨by unfold add3P; rw [if_neg c4], by unfold add3P; rw [if_neg c4]; exact h⟩⟩)
  · refine V_iload_n dX0_seen_7 rfl ?_
    refine V_i2l dX0_seen_8 rfl ?_
    refine V_lconst (v := 0) dX0_seen_9 (by rfl) ?_
    refine V_ldc2 dX0_seen_10 q734 ?_
    refine Vs_callIF (s_in l _ _ _) dX0_seen_13 (lw_S q307 q308 q95 q309) hs_X0_in (by decide) rfl (Nat.le_of_ble_eq_true rfl) ?_
    refine V_if_eqB (tgt := 31) dX0_seen_16 (by decide) (fun c16 => ?_) (fun c16 => ?_)
    · have c16b : ¬ (nI 0 ≤ k ∧ k ≤ nI 7) := by rw [l64_0, l64_7] at c16; exact fun z => c16 ((i64_in _ _ _).mpr z)
      refine V_bipush dX0_seen_31 lb_m2 ?_
      exact V_ireturn dX0_seen_33 rfl (hQ _ _ ⟨_, rfl, ⟨by unfold add3P; rw [if_pos c4, if_neg c16b], by unfold add3P; rw [if_pos c4, if_neg c16b]; exact h⟩⟩)
    · have c16b : (nI 0 ≤ k ∧ k ≤ nI 7) := by rw [l64_0, l64_7] at c16; exact (i64_in _ _ _).mp c16
      refine V_iload_n dX0_seen_19 rfl ?_
      refine V_i2l dX0_seen_20 rfl ?_
      refine V_lconst (v := 0) dX0_seen_21 (by rfl) ?_
      refine V_ldc2 dX0_seen_22 q944 ?_
      refine Vs_callIF (s_in l _ _ _) dX0_seen_25 (lw_S q307 q308 q95 q309) hs_X0_in (by decide) rfl (Nat.le_of_ble_eq_true rfl) ?_
      refine V_if_neB (tgt := 34) dX0_seen_28 (by decide) (fun c28 => ?_) (fun c28 => ?_)
      · have c28b : (nI 0 ≤ m ∧ m ≤ nI 99) := by rw [l64_0, l64_99] at c28; exact (i64_in _ _ _).mp c28
        refine V_aload_n dX0_seen_34 rfl ?_
        refine V_getf (i := 18) k_X0 dX0_seen_35 (by decide) q245 (wX_obj _) rfl ?_
        refine V_size (q := 5) (hl 5 (by decide)) dX0_seen_38 (lw_V q725 q365 q366 q100 q367) (Nat.le_of_ble_eq_true rfl) (by decide) ?_
        refine V_bipush dX0_seen_41 lb_8 ?_
        refine V_icmp_ne (tgt := 49) dX0_seen_43 (by decide) (fun c43 => ?_) (fun c43 => ?_)
        · have ccap : ¬ nI (cnt X 5) = nI 8 := fun z => c43 z
          obtain ⟨n, hc⟩ : ∃ n, cnt X 5 = n := ⟨_, rfl⟩
          have hn : n < 8 := by have := nI_cap (by omega) (by decide) ccap; omega
          rw [hc] at hc0
          have hF : add3P 34 35 8 0 99 d k m G = (nI (n + 1), mwr (mwr (mwr (mwr G 35 n d) 36 n k) 37 n m) 34 0 (nI (n + 1))) := by unfold add3P; rw [if_pos c4, if_pos c16b, if_pos c28b, if_neg (show ¬ G 34 0 = nI 8 from fun z => ccap (by rw [← g5]; exact z))]; unfold add3; rw [← t5, hc]
          have hMF : MI ((nI (n + 1), mwr (mwr (mwr (mwr G 35 n d) 36 n k) 37 n m) 34 0 (nI (n + 1)))).2 := by rw [← hF]; exact MI_seen hM _ _ _
          obtain ⟨a1, a2, a3, a4, a5, a6, a7, a8⟩ := XY_add5 hy hc hn d k m
          refine V_aload_n dX0_seen_49 rfl ?_
          refine V_getf (i := 18) k_X0 dX0_seen_50 (by decide) q245 (wX_obj _) rfl ?_
          refine V_iconst dX0_seen_53 li_3 ?_
          refine V_newa (k' := 1) (n' := 10) (N := 3) (f := cutI 3 (fun i => 0)) (1408 + n) rfl dX0_seen_54 q226 (by decide +kernel) (by decide +kernel) (by decide) (fun j hj => cutI_at hj) (wX_sn0 _ (by omega) (by omega)) (.inr ⟨by omega, by omega⟩) (fun m d hd => wX_nr hy.1.1.2 (tgt_el hy.1.1 hy.2.2.2.2.2.2.2.2.2.2.2 (q := 5) (by decide) (Nat.le_of_eq hc) (by omega)) hd) (nel_c (ne_r (by omega)) (nel_c ne_i (nel_c ne_i (nel_c ne_i nel_0)))) (nes_c (ne_r (by omega)) nes_0) ⟨by decide, by decide⟩ ?_
          refine V_dup dX0_seen_56 rfl ?_
          refine V_iconst dX0_seen_57 li_0 ?_
          refine V_iload_n dX0_seen_58 rfl ?_
          refine V_iast dX0_seen_59 upw_self (vp_in_nI (show 0 < 3 by decide) (by decide)) ?_
          rw [nI_clamp (by decide), upw_upw, cutI_up (by decide)]
          refine V_dup dX0_seen_60 rfl ?_
          refine V_iconst dX0_seen_61 li_1 ?_
          refine V_iload_n dX0_seen_62 rfl ?_
          refine V_iast dX0_seen_63 upw_self (vp_in_nI (show 1 < 3 by decide) (by decide)) ?_
          rw [nI_clamp (by decide), upw_upw, cutI_up (by decide)]
          refine V_dup dX0_seen_64 rfl ?_
          refine V_iconst dX0_seen_65 li_2 ?_
          refine V_iload_n dX0_seen_66 rfl ?_
          refine V_iast dX0_seen_67 upw_self (vp_in_nI (show 2 < 3 by decide) (by decide)) ?_
          rw [nI_clamp (by decide), upw_upw, cutI_up (by decide)]
          rw [wk5 (by omega) (by omega)]
          refine V_add (k' := 0) (n' := 0) (q := 5) (v := 1408 + n) (C := "[I") a2 (by omega) (by rw [a3]; exact a5) (.inr ⟨_, _, _, wX_sn _ (by omega) (by omega), by decide⟩) (nw q1721 rfl) (by decide) (fun z0 m d hd => wX_nr a1.2 (tgt_da a1 (by decide) z0) hd) dX0_seen_68 (lw_V q726 q591 q592 q100 q593) (fun _ => .inl rfl) (fun _ => (nel_c (ne_r (by decide)) (nel_c ne_i (nel_c ne_i (nel_c ne_i nel_0))))) (fun _ => nes_0) (by decide) (Nat.le_of_ble_eq_true rfl) ⟨fun _ => ⟨Nat.le_refl _, Nat.le_refl _⟩, by decide, by decide⟩ ?_
          refine V_pop dX0_seen_71 rfl ?_
          refine V_aload_n dX0_seen_72 rfl ?_
          refine V_getf (i := 18) k_X0 dX0_seen_73 (by decide) q245 (wX_obj _) rfl ?_
          refine V_size (q := 5) (a6) dX0_seen_76 (lw_V q725 q365 q366 q100 q367) (Nat.le_of_ble_eq_true rfl) (by decide) ?_
          rw [a7]
          exact V_ireturn dX0_seen_79 rfl (hQ _ _ ⟨_, rfl, ⟨by rw [hF], by rw [hF]; exact XY_XR hMF a8⟩⟩)
        · have ccap : nI (cnt X 5) = nI 8 := c43
          refine V_bipush dX0_seen_46 lb_m4 ?_
          exact V_ireturn dX0_seen_48 rfl (hQ _ _ ⟨_, rfl, ⟨by unfold add3P; rw [if_pos c4, if_pos c16b, if_pos c28b, if_pos (show G 34 0 = nI 8 by rw [g5, ccap])], by unfold add3P; rw [if_pos c4, if_pos c16b, if_pos c28b, if_pos (show G 34 0 = nI 8 by rw [g5, ccap])]; exact h⟩⟩)
      · have c28b : ¬ (nI 0 ≤ m ∧ m ≤ nI 99) := by rw [l64_0, l64_99] at c28; exact fun z => c28 ((i64_in _ _ _).mpr z)
        refine V_bipush dX0_seen_31 lb_m2 ?_
        exact V_ireturn dX0_seen_33 rfl (hQ _ _ ⟨_, rfl, ⟨by unfold add3P; rw [if_pos c4, if_pos c16b, if_neg c28b], by unfold add3P; rw [if_pos c4, if_pos c16b, if_neg c28b]; exact h⟩⟩)
set_option maxHeartbeats 400000 in
theorem x_lie (l : Launch) {G X : xSt} (h : XR G X) (hM : MI G) (d k m : Int32) : Cz l yX0_lie (ws_ yX0_lie cX0_lie 4 (some .int)) 9 2 14 (aF 3) [.ref 0, .int d, .int k, .int m] X (fun r X' => ∃ x, r = some (.int x) ∧ x = (add3P 13 14 6 1 9 d k m G).1 ∧ XR (add3P 13 14 6 1 9 d k m G).2 X') := by
  refine Cz_start (ls := [some (.ref 0), some (.int d), some (.int k), some (.int m)]) (by decide) rfl (Nat.le_of_ble_eq_true rfl) (aF_lo (by decide)) ?_
  intro Q hQ
  refine V_aload_n dX0_lie_0 rfl ?_
  refine V_getf (i := 4) k_X0 dX0_lie_1 (by decide) q231 (wX_obj _) rfl ?_
  refine V_bipush dX0_lie_4 lb_6 ?_
  refine V_iload_n dX0_lie_6 rfl ?_
  refine V_iload_n dX0_lie_7 rfl ?_
  refine V_iload_n dX0_lie_8 rfl ?_
  refine V_callS (k' := 0) (n' := 0) (x_more3 l h hM d k m) dX0_lie_9 (lw_S q731 q732 q95 q733) hs_X0_more (xfit_D (by decide) (by decide) (Nat.le_refl _) (Nat.le_refl _)) rfl (Nat.le_of_ble_eq_true rfl) (fun _ z => z) (okl_c (ok_r (aF_ok (by decide))) (okl_c ok_i (okl_c ok_i (okl_c ok_i okl_0)))) oks_0 (fun r w1 g1 => ?_) (fun _ _ _ h => h.elim)
  obtain ⟨X1, rfl, x, rfl, h1⟩ := g1
  exact V_ireturn dX0_lie_12 rfl (hQ _ _ ⟨_, rfl, h1⟩)
set_option maxHeartbeats 400000 in
theorem x_letting (l : Launch) {G X : xSt} (h : XR G X) (hM : MI G) (d k m : Int32) : Cz l yX0_letting (ws_ yX0_letting cX0_letting 4 (some .int)) 9 2 14 (aF 4) [.ref 0, .int d, .int k, .int m] X (fun r X' => ∃ x, r = some (.int x) ∧ x = (add3P 17 18 6 1 9 d k m G).1 ∧ XR (add3P 17 18 6 1 9 d k m G).2 X') := by
  refine Cz_start (ls := [some (.ref 0), some (.int d), some (.int k), some (.int m)]) (by decide) rfl (Nat.le_of_ble_eq_true rfl) (aF_lo (by decide)) ?_
  intro Q hQ
  refine V_aload_n dX0_letting_0 rfl ?_
  refine V_getf (i := 5) k_X0 dX0_letting_1 (by decide) q232 (wX_obj _) rfl ?_
  refine V_bipush dX0_letting_4 lb_6 ?_
  refine V_iload_n dX0_letting_6 rfl ?_
  refine V_iload_n dX0_letting_7 rfl ?_
  refine V_iload_n dX0_letting_8 rfl ?_
  refine V_callS (k' := 0) (n' := 0) (x_more4 l h hM d k m) dX0_letting_9 (lw_S q731 q732 q95 q733) hs_X0_more (xfit_D (by decide) (by decide) (Nat.le_refl _) (Nat.le_refl _)) rfl (Nat.le_of_ble_eq_true rfl) (fun _ z => z) (okl_c (ok_r (aF_ok (by decide))) (okl_c ok_i (okl_c ok_i (okl_c ok_i okl_0)))) oks_0 (fun r w1 g1 => ?_) (fun _ _ _ h => h.elim)
  obtain ⟨X1, rfl, x, rfl, h1⟩ := g1
  exact V_ireturn dX0_letting_12 rfl (hQ _ _ ⟨_, rfl, h1⟩)
theorem three_cases {t : Int32} (h : nI 0 ≤ t ∧ t ≤ nI 2) : t = nI 0 ∨ t = nI 1 ∨ t = nI 2 := by
  obtain ⟨j, hj, rfl⟩ := bd_I (by decide) h
  rcases (show j = 0 ∨ j = 1 ∨ j = 2 by omega) with e | e | e
  · rw [e]; exact .inl rfl
  · rw [e]; exact .inr (.inl rfl)
  · rw [e]; exact .inr (.inr rfl)
theorem sub_0 (x : Int32) : x - nI 0 = x := Int32.sub_zero x
theorem mwr_z (S : xSt) (j i : Nat) : mwr S j i (S j i - nI 0) = S := mwr_eq (sub_0 _).symm
theorem back_0 (G : xSt) : backS (nI 0) G = mwr G 10 0 (G 10 0 - nI 1) := by
  unfold backS
  rw [if_pos (show nI 0 = 0 from rfl), if_neg (show ¬ nI 0 = nI 1 by decide +kernel), if_neg (show ¬ nI 0 = nI 2 by decide +kernel)]
  generalize hA : mwr G 10 0 (G 10 0 - nI 1) = A
  rw [← mwr_r G 0 0 (G 10 0 - nI 1) (show 13 ≠ 10 by decide), ← mwr_r G 0 0 (G 10 0 - nI 1) (show 17 ≠ 10 by decide), hA, mwr_z, mwr_z]
theorem back_1 (G : xSt) : backS (nI 1) G = mwr G 13 0 (G 13 0 - nI 1) := by
  unfold backS
  rw [if_neg (show ¬ nI 1 = 0 by decide +kernel), if_pos (show nI 1 = nI 1 from rfl), if_neg (show ¬ nI 1 = nI 2 by decide +kernel), mwr_z]
  generalize hA : mwr G 13 0 (G 13 0 - nI 1) = A
  rw [← mwr_r G 0 0 (G 13 0 - nI 1) (show 17 ≠ 13 by decide), hA, mwr_z]
theorem back_2 (G : xSt) : backS (nI 2) G = mwr G 17 0 (G 17 0 - nI 1) := by
  unfold backS
  rw [if_neg (show ¬ nI 2 = 0 by decide +kernel), if_neg (show ¬ nI 2 = nI 1 by decide +kernel), if_pos (show nI 2 = nI 2 from rfl), mwr_z, mwr_z]
set_option maxHeartbeats 400000 in
theorem x_back (l : Launch) {G X : xSt} (h : XR G X) (hM : MI G) (w : Int32) : Cy l yX0_back (ws_ yX0_back cX0_back 3 (some .int)) 6 [.ref 0, .int w] X (fun r X' => ∃ x, r = some (.int x) ∧ x = (backP w G).1 ∧ XR (backP w G).2 X') := by
  refine Cz_start (ls := [some (.ref 0), some (.int w), none]) (by decide) rfl (Nat.le_of_ble_eq_true rfl) (fun _ _ _ h => h) ?_
  intro Q hQ
  have hy := XR_XY h
  obtain ⟨t2, t3, t4, t5, g2, g3, g4, g5, u2, u3, u4, u5⟩ := XY_ct hy
  have hl := hy.1.2.1
  have L0 : ∀ (e : w = nI 0), V l (yX0_back.cls, cX0_back, 3, (some .int), [], yX0_back.name) (rmD 6 0 0, xF0, Q, xX0) 15 [some (.ref 0), some (.int w), none] [] (wX X) 0 0 := by
    intro e
    subst e
    have hin : nI 0 ≤ nI 0 ∧ nI 0 ≤ nI 2 := by decide +kernel
    have hN : backN (nI 0) G = G 10 0 := by unfold backN; rw [if_pos (show nI 0 = 0 from rfl)]
    have hS : backS (nI 0) G = mwr G 10 0 (G 10 0 - nI 1) := back_0 G
    have hs0 : std X 2 = cnt X 2 := hy.2.2.2.2.1
    refine V_iload_n dX0_back_15 rfl ?_
    refine V_if_ne (tgt := 26) dX0_back_16 (by decide) (fun c16 => absurd (by rfl) c16) (fun _ => ?_)
    refine V_aload_n dX0_back_19 rfl ?_
    refine V_getf (i := 3) k_X0 dX0_back_20 (by decide) q230 (wX_obj _) rfl ?_
    refine V_goto (tgt := 42) dX0_back_23 (by decide) ?_
    refine V_astore_n dX0_back_42 rfl (Nat.le_of_ble_eq_true rfl) (Nat.le_of_ble_eq_true rfl) ?_
    refine V_aload_n dX0_back_43 rfl ?_
    refine V_isEmpty (q := 2) (hl 2 (by decide)) dX0_back_44 (lw_V q744 q745 q746 q100 q747) (Nat.le_of_ble_eq_true rfl) (by decide) ?_
    refine V_if_eqB (tgt := 53) dX0_back_47 (by decide) (fun c47 => ?_) (fun c47 => ?_)
    · have hne : ¬ nI (cnt X 2) = 0 := c47
      obtain ⟨j, hj⟩ : ∃ j, cnt X 2 = j + 1 := ⟨cnt X 2 - 1, by have : cnt X 2 ≠ 0 := (fun z => hne (by rw [z]; rfl)); omega⟩
      have hF : backP (nI 0) G = (nI j, mwr G 10 0 (nI j)) := by unfold backP; rw [if_pos hin, hN, if_neg (show ¬ G 10 0 = 0 by rw [g2]; exact hne), hS, g2, hj, pk_sub (by omega), Nat.add_sub_cancel]
      have hMF : MI (mwr G 10 0 (nI j)) := by have z := MI_back hM (nI 0); rw [hF] at z; exact z
      obtain ⟨a1, a2, a3⟩ := XY_dn2 hy (j := j) (by omega)
      refine V_aload_n dX0_back_53 rfl ?_
      refine V_aload_n dX0_back_54 rfl ?_
      refine V_size (q := 2) (hl 2 (by decide)) dX0_back_55 (lw_V q725 q365 q366 q100 q367) (Nat.le_of_ble_eq_true rfl) (by decide) ?_
      refine V_iconst dX0_back_58 li_1 ?_
      refine V_isubN dX0_back_59 (by omega) ?_
      refine V_topi (show nI (cnt X 2 - 1) = nI j by rw [hj, Nat.add_sub_cancel]) ?_
      refine V_remove (q := 2) (hl 2 (by decide)) hj dX0_back_60 (lw_V q748 q749 q750 q100 q751) (by decide) (by decide) ?_
      refine V_pop dX0_back_63 rfl ?_
      refine V_w (w2 := wX (mwr (mwr X 49 2 (X 49 2 + nI 1)) 10 0 (nI j))) (by unfold rmX; rw [hj, Nat.add_sub_cancel]; rfl) ?_
      refine V_sub (wX_dn2 (X := mwr (mwr X 49 2 (X 49 2 + nI 1)) 10 0 (nI j)) (j := j) (by unfold std at *; rw [mwr_r _ _ _ _ (by decide), mwr_r _ _ _ _ (by decide)]; omega) (by unfold std at *; rw [mwr_r _ _ _ _ (by decide), mwr_r _ _ _ _ (by decide)]; omega)) ?_
      refine V_aload_n dX0_back_64 rfl ?_
      refine V_size (q := 2) (a1) dX0_back_65 (lw_V q725 q365 q366 q100 q367) (Nat.le_of_ble_eq_true rfl) (by decide) ?_
      rw [a2]
      exact V_ireturn dX0_back_68 rfl (hQ _ _ ⟨_, rfl, ⟨by rw [hF], by rw [hF]; exact XY_XR hMF a3⟩⟩)
    · refine V_bipush dX0_back_50 lb_m3 ?_
      exact V_ireturn dX0_back_52 rfl (hQ _ _ ⟨_, rfl, ⟨by unfold backP; rw [if_pos hin, hN, if_pos (show G 10 0 = 0 by rw [g2]; exact c47)], by unfold backP; rw [if_pos hin, hN, if_pos (show G 10 0 = 0 by rw [g2]; exact c47)]; exact h⟩⟩)
  have L1 : ∀ (e : w = nI 1), V l (yX0_back.cls, cX0_back, 3, (some .int), [], yX0_back.name) (rmD 6 0 0, xF0, Q, xX0) 15 [some (.ref 0), some (.int w), none] [] (wX X) 0 0 := by
    intro e
    subst e
    have hin : nI 0 ≤ nI 1 ∧ nI 1 ≤ nI 2 := by decide +kernel
    have hN : backN (nI 1) G = G 13 0 := by unfold backN; rw [if_neg (show ¬ nI 1 = 0 by decide +kernel), if_pos (show nI 1 = nI 1 from rfl)]
    have hS : backS (nI 1) G = mwr G 13 0 (G 13 0 - nI 1) := back_1 G
    have hs0 : std X 3 = cnt X 3 := (hy.1.2.2.2.2.2.2.2.1 3 (by decide) (by decide))
    refine V_iload_n dX0_back_15 rfl ?_
    refine V_if_ne (tgt := 26) dX0_back_16 (by decide) (fun _ => ?_) (fun c16 => absurd c16 (by decide +kernel))
    refine V_iload_n dX0_back_26 rfl ?_
    refine V_iconst dX0_back_27 li_1 ?_
    refine V_icmp_ne (tgt := 38) dX0_back_28 (by decide) (fun c28 => absurd (by rfl) c28) (fun _ => ?_)
    refine V_aload_n dX0_back_31 rfl ?_
    refine V_getf (i := 4) k_X0 dX0_back_32 (by decide) q231 (wX_obj _) rfl ?_
    refine V_goto (tgt := 42) dX0_back_35 (by decide) ?_
    refine V_astore_n dX0_back_42 rfl (Nat.le_of_ble_eq_true rfl) (Nat.le_of_ble_eq_true rfl) ?_
    refine V_aload_n dX0_back_43 rfl ?_
    refine V_isEmpty (q := 3) (hl 3 (by decide)) dX0_back_44 (lw_V q744 q745 q746 q100 q747) (Nat.le_of_ble_eq_true rfl) (by decide) ?_
    refine V_if_eqB (tgt := 53) dX0_back_47 (by decide) (fun c47 => ?_) (fun c47 => ?_)
    · have hne : ¬ nI (cnt X 3) = 0 := c47
      obtain ⟨j, hj⟩ : ∃ j, cnt X 3 = j + 1 := ⟨cnt X 3 - 1, by have : cnt X 3 ≠ 0 := (fun z => hne (by rw [z]; rfl)); omega⟩
      have hF : backP (nI 1) G = (nI j, mwr G 13 0 (nI j)) := by unfold backP; rw [if_pos hin, hN, if_neg (show ¬ G 13 0 = 0 by rw [g3]; exact hne), hS, g3, hj, pk_sub (by omega), Nat.add_sub_cancel]
      have hMF : MI (mwr G 13 0 (nI j)) := by have z := MI_back hM (nI 1); rw [hF] at z; exact z
      obtain ⟨a1, a2, a3⟩ := XY_dn3 hy (j := j) (by omega)
      refine V_aload_n dX0_back_53 rfl ?_
      refine V_aload_n dX0_back_54 rfl ?_
      refine V_size (q := 3) (hl 3 (by decide)) dX0_back_55 (lw_V q725 q365 q366 q100 q367) (Nat.le_of_ble_eq_true rfl) (by decide) ?_
      refine V_iconst dX0_back_58 li_1 ?_
      refine V_isubN dX0_back_59 (by omega) ?_
      refine V_topi (show nI (cnt X 3 - 1) = nI j by rw [hj, Nat.add_sub_cancel]) ?_
      refine V_remove (q := 3) (hl 3 (by decide)) hj dX0_back_60 (lw_V q748 q749 q750 q100 q751) (by decide) (by decide) ?_
      refine V_pop dX0_back_63 rfl ?_
      refine V_w (w2 := wX (mwr (mwr X 49 3 (X 49 3 + nI 1)) 13 0 (nI j))) (by unfold rmX; rw [hj, Nat.add_sub_cancel]; rfl) ?_
      refine V_sub (wX_dn3 (X := mwr (mwr X 49 3 (X 49 3 + nI 1)) 13 0 (nI j)) (j := j) (by unfold std at *; rw [mwr_r _ _ _ _ (by decide), mwr_r _ _ _ _ (by decide)]; omega) (by unfold std at *; rw [mwr_r _ _ _ _ (by decide), mwr_r _ _ _ _ (by decide)]; omega)) ?_
      refine V_aload_n dX0_back_64 rfl ?_
      refine V_size (q := 3) (a1) dX0_back_65 (lw_V q725 q365 q366 q100 q367) (Nat.le_of_ble_eq_true rfl) (by decide) ?_
      rw [a2]
      exact V_ireturn dX0_back_68 rfl (hQ _ _ ⟨_, rfl, ⟨by rw [hF], by rw [hF]; exact XY_XR hMF a3⟩⟩)
    · refine V_bipush dX0_back_50 lb_m3 ?_
      exact V_ireturn dX0_back_52 rfl (hQ _ _ ⟨_, rfl, ⟨by unfold backP; rw [if_pos hin, hN, if_pos (show G 13 0 = 0 by rw [g3]; exact c47)], by unfold backP; rw [if_pos hin, hN, if_pos (show G 13 0 = 0 by rw [g3]; exact c47)]; exact h⟩⟩)
  have L2 : ∀ (e : w = nI 2), V l (yX0_back.cls, cX0_back, 3, (some .int), [], yX0_back.name) (rmD 6 0 0, xF0, Q, xX0) 15 [some (.ref 0), some (.int w), none] [] (wX X) 0 0 := by
    intro e
    subst e
    have hin : nI 0 ≤ nI 2 ∧ nI 2 ≤ nI 2 := by decide +kernel
    have hN : backN (nI 2) G = G 17 0 := by unfold backN; rw [if_neg (show ¬ nI 2 = 0 by decide +kernel), if_neg (show ¬ nI 2 = nI 1 by decide +kernel)]
    have hS : backS (nI 2) G = mwr G 17 0 (G 17 0 - nI 1) := back_2 G
    have hs0 : std X 4 = cnt X 4 := (hy.1.2.2.2.2.2.2.2.1 4 (by decide) (by decide))
    refine V_iload_n dX0_back_15 rfl ?_
    refine V_if_ne (tgt := 26) dX0_back_16 (by decide) (fun _ => ?_) (fun c16 => absurd c16 (by decide +kernel))
    refine V_iload_n dX0_back_26 rfl ?_
    refine V_iconst dX0_back_27 li_1 ?_
    refine V_icmp_ne (tgt := 38) dX0_back_28 (by decide) (fun _ => ?_) (fun c28 => absurd c28 (by decide +kernel))
    refine V_aload_n dX0_back_38 rfl ?_
    refine V_getf (i := 5) k_X0 dX0_back_39 (by decide) q232 (wX_obj _) rfl ?_
    refine V_astore_n dX0_back_42 rfl (Nat.le_of_ble_eq_true rfl) (Nat.le_of_ble_eq_true rfl) ?_
    refine V_aload_n dX0_back_43 rfl ?_
    refine V_isEmpty (q := 4) (hl 4 (by decide)) dX0_back_44 (lw_V q744 q745 q746 q100 q747) (Nat.le_of_ble_eq_true rfl) (by decide) ?_
    refine V_if_eqB (tgt := 53) dX0_back_47 (by decide) (fun c47 => ?_) (fun c47 => ?_)
    · have hne : ¬ nI (cnt X 4) = 0 := c47
      obtain ⟨j, hj⟩ : ∃ j, cnt X 4 = j + 1 := ⟨cnt X 4 - 1, by have : cnt X 4 ≠ 0 := (fun z => hne (by rw [z]; rfl)); omega⟩
      have hF : backP (nI 2) G = (nI j, mwr G 17 0 (nI j)) := by unfold backP; rw [if_pos hin, hN, if_neg (show ¬ G 17 0 = 0 by rw [g4]; exact hne), hS, g4, hj, pk_sub (by omega), Nat.add_sub_cancel]
      have hMF : MI (mwr G 17 0 (nI j)) := by have z := MI_back hM (nI 2); rw [hF] at z; exact z
      obtain ⟨a1, a2, a3⟩ := XY_dn4 hy (j := j) (by omega)
      refine V_aload_n dX0_back_53 rfl ?_
      refine V_aload_n dX0_back_54 rfl ?_
      refine V_size (q := 4) (hl 4 (by decide)) dX0_back_55 (lw_V q725 q365 q366 q100 q367) (Nat.le_of_ble_eq_true rfl) (by decide) ?_
      refine V_iconst dX0_back_58 li_1 ?_
      refine V_isubN dX0_back_59 (by omega) ?_
      refine V_topi (show nI (cnt X 4 - 1) = nI j by rw [hj, Nat.add_sub_cancel]) ?_
      refine V_remove (q := 4) (hl 4 (by decide)) hj dX0_back_60 (lw_V q748 q749 q750 q100 q751) (by decide) (by decide) ?_
      refine V_pop dX0_back_63 rfl ?_
      refine V_w (w2 := wX (mwr (mwr X 49 4 (X 49 4 + nI 1)) 17 0 (nI j))) (by unfold rmX; rw [hj, Nat.add_sub_cancel]; rfl) ?_
      refine V_sub (wX_dn4 (X := mwr (mwr X 49 4 (X 49 4 + nI 1)) 17 0 (nI j)) (j := j) (by unfold std at *; rw [mwr_r _ _ _ _ (by decide), mwr_r _ _ _ _ (by decide)]; omega) (by unfold std at *; rw [mwr_r _ _ _ _ (by decide), mwr_r _ _ _ _ (by decide)]; omega)) ?_
      refine V_aload_n dX0_back_64 rfl ?_
      refine V_size (q := 4) (a1) dX0_back_65 (lw_V q725 q365 q366 q100 q367) (Nat.le_of_ble_eq_true rfl) (by decide) ?_
      rw [a2]
      exact V_ireturn dX0_back_68 rfl (hQ _ _ ⟨_, rfl, ⟨by rw [hF], by rw [hF]; exact XY_XR hMF a3⟩⟩)
    · refine V_bipush dX0_back_50 lb_m3 ?_
      exact V_ireturn dX0_back_52 rfl (hQ _ _ ⟨_, rfl, ⟨by unfold backP; rw [if_pos hin, hN, if_pos (show G 17 0 = 0 by rw [g4]; exact c47)], by unfold backP; rw [if_pos hin, hN, if_pos (show G 17 0 = 0 by rw [g4]; exact c47)]; exact h⟩⟩)
  refine V_iload_n dX0_back_0 rfl ?_
  refine V_i2l dX0_back_1 rfl ?_
  refine V_lconst (v := 0) dX0_back_2 (by rfl) ?_
  refine V_ldc2 dX0_back_3 q743 ?_
  refine Vs_callIF (s_in l _ _ _) dX0_back_6 (lw_S q307 q308 q95 q309) hs_X0_in (by decide) rfl (Nat.le_of_ble_eq_true rfl) ?_
  refine V_if_neB (tgt := 15) dX0_back_9 (by decide) (fun c9 => ?_) (fun c9 => ?_)
  · have c9b : (nI 0 ≤ w ∧ w ≤ nI 2) := by rw [l64_0, l64_2] at c9; exact (i64_in _ _ _).mp c9
    exact (three_cases c9b).elim L0 (fun z => z.elim L1 L2)
  · have c9b : ¬ (nI 0 ≤ w ∧ w ≤ nI 2) := by rw [l64_0, l64_2] at c9; exact fun z => c9 ((i64_in _ _ _).mpr z)
    refine V_bipush dX0_back_12 lb_m2 ?_
    exact V_ireturn dX0_back_14 rfl (hQ _ _ ⟨_, rfl, ⟨by unfold backP; rw [if_neg c9b], by unfold backP; rw [if_neg c9b]; exact h⟩⟩)
set_option maxHeartbeats 400000 in
theorem x_forget (l : Launch) {G X : xSt} (h : XR G X) (hM : MI G) : Cy l yX0_forget (ws_ yX0_forget cX0_forget 2 (some .int)) 6 [.ref 0] X (fun r X' => ∃ x, r = some (.int x) ∧ x = (forgetP G).1 ∧ XR (forgetP G).2 X') := by
  refine Cz_start (ls := [some (.ref 0), none]) (by decide) rfl (Nat.le_of_ble_eq_true rfl) (fun _ _ _ h => h) ?_
  intro Q hQ
  have hy := XR_XY h
  obtain ⟨t2, t3, t4, t5, g2, g3, g4, g5, u2, u3, u4, u5⟩ := XY_ct hy
  have hl := hy.1.2.1
  have hs0 : std X 5 = cnt X 5 := hy.1.2.2.2.2.2.2.2.1 5 (by decide) (by decide)
  obtain ⟨a1, a2, a3⟩ := XY_dn5 hy (j := 0) (Nat.zero_le _)
  refine V_aload_n dX0_forget_0 rfl ?_
  refine V_getf (i := 18) k_X0 dX0_forget_1 (by decide) q245 (wX_obj _) rfl ?_
  refine V_size (q := 5) (hl 5 (by decide)) dX0_forget_4 (lw_V q725 q365 q366 q100 q367) (Nat.le_of_ble_eq_true rfl) (by decide) ?_
  refine V_istore_n dX0_forget_7 rfl (Nat.le_of_ble_eq_true rfl) (Nat.le_of_ble_eq_true rfl) ?_
  refine V_aload_n dX0_forget_8 rfl ?_
  refine V_getf (i := 18) k_X0 dX0_forget_9 (by decide) q245 (wX_obj _) rfl ?_
  refine V_clear (q := 5) (hl 5 (by decide)) dX0_forget_12 (lw_V q949 q357 q358 q100 q359) (Nat.le_of_ble_eq_true rfl) (by decide) ?_
  refine V_sub (wX_dn5 (X := clX 5 X) (j := 0) (Nat.zero_le _) (by unfold std clX at *; rw [mwr_r _ _ _ _ (by decide), mwr_r _ _ _ _ (by decide)]; omega)) ?_
  refine V_iload_n dX0_forget_15 rfl ?_
  exact V_ireturn dX0_forget_16 rfl (hQ _ _ ⟨_, rfl, ⟨by unfold forgetP; rw [g5], XY_XR (MI_forget hM) a3⟩⟩)
