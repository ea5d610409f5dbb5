/-! PromiseTailor's side: questions and plans from outside -/
set_option maxRecDepth 100000
theorem rc_01 {X Y : xSt} (h : Y 47 0 = nI 1) (g : Y 47 1 = X 47 1) : rc Y = rct 1 X ∧ rs Y = rst 1 X := by
  unfold rc rs rct rst
  rw [if_pos h, if_pos h, g]
  exact ⟨Nat.zero_add _, Nat.zero_add _⟩
theorem XR_W0 {G X Y : xSt} (h : XR G X) (hx : XT (asToldF G) Y) (hw : WR0 X Y) (hf : Y 47 0 = nI 1) : XR G Y := XR_FV h (PT_xb h.1 (XB_of hx (AP_rf _)) (FV_FW (FW_0 hw hf)) (od_rf Y) (by unfold df; rw [(FW_0 hw hf).1 45 (by omega), (FW_0 hw hf).1 25 (by omega), (FW_0 hw hf).1 26 (by omega)]; exact h.1.2.2)) (FV_FW (FW_0 hw hf))
theorem XR_W1 {G X Y : xSt} (h : XR G X) (hx : XT (asToldF G) Y) (hw : WR1 X Y) (hf : Y 47 1 = nI 1) : XR G Y := XR_FV h (PT_xb h.1 (XB_of hx (AP_rf _)) (FV_FW (FW_1 hw hf)) (od_rf Y) (by unfold df; rw [(FW_1 hw hf).1 45 (by omega), (FW_1 hw hf).1 25 (by omega), (FW_1 hw hf).1 26 (by omega)]; exact h.1.2.2)) (FV_FW (FW_1 hw hf))

set_option maxHeartbeats 400000 in
theorem x_splits (l : Launch) {G X : xSt} (h : XR G X) : Cx l yX0_splits (ws_ yX0_splits cX0_splits 1 (some .int)) 21 [.ref 0] X (fun r X' => ∃ x, r = some (.int x) ∧ x = tearsF (RT G) ∧ XR G X') := by
  refine Cz_start (ls := [some (.ref 0)]) (by decide) rfl (Nat.le_of_ble_eq_true rfl) fF_lo ?_
  intro Q hQ
  refine V_aload_n dX0_splits_0 rfl ?_
  refine Vz_vV (k' := 0) (n' := 0) (x_find l h.1.1) dX0_splits_1 (lw_V q789 q791 qs9 q95 q792) hv_X0_find (by decide) (wX_obj _) cl_X0 rfl rfl (Nat.le_of_ble_eq_true rfl) (fun _ z => z) (okl_c (ok_r (fF_ok (.inl (Nat.le_of_ble_eq_true rfl)))) okl_0) oks_0 ⟨Nat.le_refl _, Nat.le_refl _⟩ (fun X2 h2 => ?_)
  have hR := XR_find h h2.1 h2.2.2
  have hQ2 := RQ_of h2.1 h2.2.1
  refine V_aload_n dX0_splits_4 rfl ?_
  refine Vq_v (x_allSplits l hQ2) dX0_splits_5 (lw_V q881 q883 qs20 q95 q884) hv_X0_allSplits (by decide) (wX_obj _) cl_X0 rfl rfl (Nat.le_of_ble_eq_true rfl) ?_
  exact V_ireturn dX0_splits_8 rfl (hQ _ _ ⟨_, rfl, ⟨by unfold RT; exact Eq.refl _, hR⟩⟩)
set_option maxHeartbeats 400000 in
theorem x_best (l : Launch) {G X : xSt} (h : XR G X) : Cx l yX0_best (ws_ yX0_best cX0_best 1 (some .int)) 21 [.ref 0] X (fun r X' => ∃ x, r = some (.int x) ∧ x = bestF (RT G) ∧ XR G X') := by
  refine Cz_start (ls := [some (.ref 0)]) (by decide) rfl (Nat.le_of_ble_eq_true rfl) fF_lo ?_
  intro Q hQ
  refine V_aload_n dX0_best_0 rfl ?_
  refine Vz_vV (k' := 0) (n' := 0) (x_find l h.1.1) dX0_best_1 (lw_V q789 q791 qs9 q95 q792) hv_X0_find (by decide) (wX_obj _) cl_X0 rfl rfl (Nat.le_of_ble_eq_true rfl) (fun _ z => z) (okl_c (ok_r (fF_ok (.inl (Nat.le_of_ble_eq_true rfl)))) okl_0) oks_0 ⟨Nat.le_refl _, Nat.le_refl _⟩ (fun X2 h2 => ?_)
  have hR := XR_find h h2.1 h2.2.2
  have hQ2 := RQ_of h2.1 h2.2.1
  refine V_aload_n dX0_best_4 rfl ?_
  refine Vq_v (x_bestNow l hQ2) dX0_best_5 (lw_V q889 q891 qs21 q95 q892) hv_X0_bestNow (by decide) (wX_obj _) cl_X0 rfl rfl (Nat.le_of_ble_eq_true rfl) ?_
  exact V_ireturn dX0_best_8 rfl (hQ _ _ ⟨_, rfl, ⟨by unfold RT; exact Eq.refl _, hR⟩⟩)
set_option maxHeartbeats 400000 in
theorem x_swear (l : Launch) {G X : xSt} (h0 : XR G X) (hM : MI G) (k day : Int32) : Cx l yX0_swear (ws_ yX0_swear cX0_swear 3 (some .int)) 22 [.ref 0, .int k, .int day] X (fun r X' => ∃ x, r = some (.int x) ∧ x = (swearP k day G).1 ∧ XR G X') := by
  refine Cz_start (ls := [some (.ref 0), some (.int k), some (.int day)]) (by decide) rfl (Nat.le_of_ble_eq_true rfl) fF_lo ?_
  intro Q hQ
  have h := XR_rd h0 hM
  refine V_aload_n dX0_swear_0 rfl ?_
  refine V_iload_n dX0_swear_1 rfl ?_
  refine Vz_vI (k' := rct 1 X) (n' := rst 1 X) (x_isPersonT l h.1.1 k) dX0_swear_2 (lw_V q654 q656 qs5 q95 q657) hv_X0_isPerson (by decide) (wX_obj _) cl_X0 rfl rfl (Nat.le_of_ble_eq_true rfl) (gF_fF (by decide)) (okl_c (ok_r (gF_ok (by decide))) (okl_c ok_i (okl_c ok_i okl_0))) oks_0 ⟨Nat.le_refl _, Nat.le_refl _⟩ (fun x2 X2 h2 => ?_)
  obtain ⟨ex, h3, h4, h5⟩ := h2
  rw [ex, rr_2]
  have hX2 := XR_W0 h h3 h5 h4
  have er := rc_01 (X := X) h4 (h5.2.1 47 1 (by decide) (by decide))
  refine V_if_eqB (tgt := 24) dX0_swear_5 (by decide) (fun c5 => ?_) (fun c5 => ?_)
  · refine V_bipush dX0_swear_24 lb_m2 ?_
    exact V_ireturn dX0_swear_26 rfl (hQ _ _ ⟨_, rfl, ⟨by unfold swearP; rw [if_neg c5], XR_dr hX2 hM⟩⟩)
  · obtain ⟨k, rfl, hk, hk8⟩ := bd_in (n := 8) (by decide) (RD_p hM).1 c5
    have hvk : vN (nI k) = k := vN_nI (by omega)
    have hk2 : k < vN (asToldF (readsF G) 2 0) := by rw [rr_2]; obtain ⟨m, hm, e⟩ := (RD_p hM).1; rw [e] at hk ⊢; rw [vN_nI (by omega)]; exact (nI_ltI (by omega) (by omega)).mp hk
    refine V_iload_n dX0_swear_8 rfl ?_
    refine Vs_callIF (s_isDay l _) dX0_swear_9 (lw_S q720 q721 q95 q722) hs_X0_isDay (by decide) rfl (Nat.le_of_ble_eq_true rfl) ?_
    refine V_if_eqB (tgt := 24) dX0_swear_12 (by decide) (fun c12 => ?_) (fun c12 => ?_)
    · refine V_bipush dX0_swear_24 lb_m2 ?_
      exact V_ireturn dX0_swear_26 rfl (hQ _ _ ⟨_, rfl, ⟨by unfold swearP; rw [if_pos c5, if_neg c12], XR_dr hX2 hM⟩⟩)
    · obtain ⟨day, hd, rfl⟩ := bd_I (by decide) c12
      have hvd : vN (nI day) = day := vN_nI (by omega)
      refine V_aload_n dX0_swear_15 rfl ?_
      refine V_iload_n dX0_swear_16 rfl ?_
      refine V_iload_n dX0_swear_17 rfl ?_
      refine Vz_wI (k' := 0) (n' := 0) (x_swearOf l hX2.1 (k := k) (day := day) hk2 (by omega)) dX0_swear_18 (lw_VW q907 q909 qs23 q95 q910) hv_X0_swearOf (by decide) (wX_obj _) cl_X0 rfl rfl (Nat.le_of_ble_eq_true rfl) (fF_FV (FV_FW (FW_0 h5 h4))) (okl_c (ok_r (fF_ok (.inl (Nat.le_of_ble_eq_true rfl)))) (okl_c ok_i (okl_c ok_i okl_0))) oks_0 ⟨Nat.le_of_eq er.1, Nat.le_of_eq er.2⟩ (fun x3 X3 h6 => ?_)
      refine V_goto (tgt := 26) dX0_swear_21 (by decide) ?_
      exact V_ireturn dX0_swear_26 rfl (hQ _ _ ⟨_, rfl, ⟨by unfold swearP; rw [if_pos c5, if_pos c12, hvk, hvd]; exact h6.1, XR_dr (XR_FV hX2 h6.2.1 h6.2.2) hM⟩⟩)
