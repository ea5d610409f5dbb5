/-! PromiseTailor's side: plans from outside -/
set_option maxRecDepth 100000
theorem XR_10 {G X : xSt} (h : XR G X) : asToldF G 10 0 = X 10 0 := (congrFun (asToldF_r G (by omega)) 0).trans ((asToldF_22 G).symm.trans h.1.2.1.2.1)
theorem lt_2 {G : xSt} {k : Nat} (hM : MI G) (hk : nI k < readsF G 2 0) (hk8 : k < 8) : k < vN (asToldF (readsF G) 2 0) := by
  rw [rr_2]
  obtain ⟨m, hm, e⟩ := (RD_p hM).1
  rw [e] at hk ⊢
  rw [vN_nI (by omega)]
  exact (nI_ltI (by omega) (by omega)).mp hk
theorem lt_5 {G : xSt} {k : Nat} (hM : MI G) (hk : nI k < readsF G 5 0) (hk8 : k < 10) : k < vN (asToldF (readsF G) 5 0) := by
  rw [rr_5]
  obtain ⟨m, hm, e⟩ := (RD_p hM).2
  rw [e] at hk ⊢
  rw [vN_nI (by omega)]
  exact (nI_ltI (by omega) (by omega)).mp hk

set_option maxHeartbeats 400000 in
theorem x_was (l : Launch) {G X : xSt} (h0 : XR G X) (hM : MI G) (k what : Int32) : Cx l yX0_was (ws_ yX0_was cX0_was 3 (some .int)) 24 [.ref 0, .int k, .int what] X (fun r X' => ∃ x, r = some (.int x) ∧ x = (wasP k what G).1 ∧ XR G X') := by
  refine Cz_start (ls := [some (.ref 0), some (.int k), some (.int what)]) (by decide) rfl (Nat.le_of_ble_eq_true rfl) fF_lo ?_
  intro Q hQ
  have h := XR_rd h0 hM
  have hS : SV (asToldF (readsF G)) := (LI_0 (MI_reads hM)).2.1
  refine V_aload_n dX0_was_0 rfl ?_
  refine V_iload_n dX0_was_1 rfl ?_
  refine Vz_vI (k' := rct 1 X) (n' := rst 1 X) (x_isPersonT l h.1.1 k) dX0_was_2 (lw_V q654 q656 qs5 q95 q657) hv_X0_isPerson (by decide) (wX_obj _) cl_X0 rfl rfl (Nat.le_of_ble_eq_true rfl) (gF_fF (by decide)) (okl_c (ok_r (gF_ok (by decide))) (okl_c ok_i (okl_c ok_i okl_0))) oks_0 ⟨Nat.le_refl _, Nat.le_refl _⟩ (fun x2 X2 h2 => ?_)
  obtain ⟨ex, h3, h4, h5⟩ := h2
  rw [ex, rr_2]
  have hX2 := XR_W0 h h3 h5 h4
  have er := rc_01 (X := X) h4 (h5.2.1 47 1 (by decide) (by decide))
  have hfv := FV_FW (FW_0 h5 h4)
  refine V_if_eqB (tgt := 24) dX0_was_5 (by decide) (fun c5 => ?_) (fun c5 => ?_)
  · refine V_bipush dX0_was_24 lb_m2 ?_
    exact V_ireturn dX0_was_26 rfl (hQ _ _ ⟨_, rfl, ⟨by unfold wasP; rw [if_neg c5], XR_dr hX2 hM⟩⟩)
  · obtain ⟨k, rfl, hk, hk8⟩ := bd_in (n := 8) (by decide) (RD_p hM).1 c5
    have hvk : vN (nI k) = k := vN_nI (by omega)
    have hk2 := lt_2 hM hk hk8
    refine V_iload_n dX0_was_8 rfl ?_
    refine Vs_callIF (s_isTwo l _) dX0_was_9 (lw_S q304 q305 q95 q306) hs_X0_isTwo (by decide) rfl (Nat.le_of_ble_eq_true rfl) ?_
    refine V_if_eqB (tgt := 24) dX0_was_12 (by decide) (fun c12 => ?_) (fun c12 => ?_)
    · refine V_bipush dX0_was_24 lb_m2 ?_
      exact V_ireturn dX0_was_26 rfl (hQ _ _ ⟨_, rfl, ⟨by unfold wasP; rw [if_pos c5, if_neg c12], XR_dr hX2 hM⟩⟩)
    · refine V_aload_n dX0_was_15 rfl ?_
      refine V_iload_n dX0_was_16 rfl ?_
      refine V_iload_n dX0_was_17 rfl ?_
      refine Vz_vI (k' := 0) (n' := 0) (x_wasOf l hX2.1 hS h4 (k := k) (what := what) hk2) dX0_was_18 (lw_V q966 q968 qs30 q95 q969) hv_X0_wasOf (by decide) (wX_obj _) cl_X0 rfl rfl (Nat.le_of_ble_eq_true rfl) (fF_FV hfv) (okl_c (ok_r (fF_ok (.inl (Nat.le_of_ble_eq_true rfl)))) (okl_c ok_i (okl_c ok_i okl_0))) oks_0 ⟨Nat.le_of_eq er.1, Nat.le_of_eq er.2⟩ (fun x3 X3 h6 => ?_)
      refine V_goto (tgt := 26) dX0_was_21 (by decide) ?_
      exact V_ireturn dX0_was_26 rfl (hQ _ _ ⟨_, rfl, ⟨by unfold wasP; rw [if_pos c5, if_pos c12, hvk]; exact h6.1, XR_dr (XR_FV hX2 h6.2.1 h6.2.2) hM⟩⟩)
set_option maxHeartbeats 400000 in
theorem x_ask (l : Launch) {G X : xSt} (h0 : XR G X) (hM : MI G) (k : Int32) : Cx l yX0_ask (ws_ yX0_ask cX0_ask 2 (some .int)) 24 [.ref 0, .int k] X (fun r X' => ∃ x, r = some (.int x) ∧ x = (askP k G).1 ∧ XR G X') := by
  refine Cz_start (ls := [some (.ref 0), some (.int k)]) (by decide) rfl (Nat.le_of_ble_eq_true rfl) fF_lo ?_
  intro Q hQ
  have h := XR_rd h0 hM
  have hS : SV (asToldF (readsF G)) := (LI_0 (MI_reads hM)).2.1
  refine V_aload_n dX0_ask_0 rfl ?_
  refine V_iload_n dX0_ask_1 rfl ?_
  refine Vz_vI (k' := rct 1 X) (n' := rst 1 X) (x_isPersonT l h.1.1 k) dX0_ask_2 (lw_V q654 q656 qs5 q95 q657) hv_X0_isPerson (by decide) (wX_obj _) cl_X0 rfl rfl (Nat.le_of_ble_eq_true rfl) (gF_fF (by decide)) (okl_c (ok_r (gF_ok (by decide))) (okl_c ok_i okl_0)) oks_0 ⟨Nat.le_refl _, Nat.le_refl _⟩ (fun x2 X2 h2 => ?_)
  obtain ⟨ex, h3, h4, h5⟩ := h2
  rw [ex, rr_2]
  have hX2 := XR_W0 h h3 h5 h4
  have er := rc_01 (X := X) h4 (h5.2.1 47 1 (by decide) (by decide))
  have hfv := FV_FW (FW_0 h5 h4)
  refine V_if_eqB (tgt := 16) dX0_ask_5 (by decide) (fun c5 => ?_) (fun c5 => ?_)
  · refine V_bipush dX0_ask_16 lb_m2 ?_
    exact V_ireturn dX0_ask_18 rfl (hQ _ _ ⟨_, rfl, ⟨by unfold askP; rw [if_neg c5], XR_dr hX2 hM⟩⟩)
  · obtain ⟨k, rfl, hk, hk8⟩ := bd_in (n := 8) (by decide) (RD_p hM).1 c5
    have hvk : vN (nI k) = k := vN_nI (by omega)
    have hk2 := lt_2 hM hk hk8
    refine V_aload_n dX0_ask_8 rfl ?_
    refine V_iload_n dX0_ask_9 rfl ?_
    refine Vz_vI (k' := 0) (n' := 0) (x_askOf l hX2.1 hS h4 (k := k) hk2) dX0_ask_10 (lw_V q983 q985 qs33 q95 q986) hv_X0_askOf (by decide) (wX_obj _) cl_X0 rfl rfl (Nat.le_of_ble_eq_true rfl) (fF_FV hfv) (okl_c (ok_r (fF_ok (.inl (Nat.le_of_ble_eq_true rfl)))) (okl_c ok_i okl_0)) oks_0 ⟨Nat.le_of_eq er.1, Nat.le_of_eq er.2⟩ (fun x3 X3 h6 => ?_)
    refine V_goto (tgt := 18) dX0_ask_13 (by decide) ?_
    exact V_ireturn dX0_ask_18 rfl (hQ _ _ ⟨_, rfl, ⟨by unfold askP; rw [if_pos c5, hvk]; exact h6.1, XR_dr (XR_FV hX2 h6.2.1 h6.2.2) hM⟩⟩)
set_option maxHeartbeats 400000 in
theorem x_due (l : Launch) {G X : xSt} (h0 : XR G X) (hM : MI G) (k what : Int32) : Cx l yX0_due (ws_ yX0_due cX0_due 3 (some .int)) 24 [.ref 0, .int k, .int what] X (fun r X' => ∃ x, r = some (.int x) ∧ x = (dueP k what G).1 ∧ XR G X') := by
  refine Cz_start (ls := [some (.ref 0), some (.int k), some (.int what)]) (by decide) rfl (Nat.le_of_ble_eq_true rfl) fF_lo ?_
  intro Q hQ
  have h := XR_rd h0 hM
  have hS : SV (asToldF (readsF G)) := (LI_0 (MI_reads hM)).2.1
  refine V_aload_n dX0_due_0 rfl ?_
  refine V_iload_n dX0_due_1 rfl ?_
  refine Vz_vI (k' := rct 0 X) (n' := rst 0 X) (x_isPromiseT l h.1.1 k) dX0_due_2 (lw_V q703 q705 qs6 q95 q706) hv_X0_isPromise (by decide) (wX_obj _) cl_X0 rfl rfl (Nat.le_of_ble_eq_true rfl) (gF_fF (by decide)) (okl_c (ok_r (gF_ok (by decide))) (okl_c ok_i (okl_c ok_i okl_0))) oks_0 ⟨Nat.le_of_eq (Nat.add_comm _ _), Nat.le_of_eq (Nat.add_comm _ _)⟩ (fun x2 X2 h2 => ?_)
  obtain ⟨ex, h3, h4, h5⟩ := h2
  rw [ex, rr_5]
  have hX2 := XR_W1 h h3 h5 h4
  have er := rc_1 (X := X) h4 (h5.2.1 47 0 (by decide) (by decide))
  have hfv := FV_FW (FW_1 h5 h4)
  refine V_if_eqB (tgt := 24) dX0_due_5 (by decide) (fun c5 => ?_) (fun c5 => ?_)
  · refine V_bipush dX0_due_24 lb_m2 ?_
    exact V_ireturn dX0_due_26 rfl (hQ _ _ ⟨_, rfl, ⟨by unfold dueP; rw [if_neg c5], XR_dr hX2 hM⟩⟩)
  · obtain ⟨k, rfl, hk, hk8⟩ := bd_in (n := 10) (by decide) (RD_p hM).2 c5
    have hvk : vN (nI k) = k := vN_nI (by omega)
    have hk2 := lt_5 hM hk hk8
    refine V_iload_n dX0_due_8 rfl ?_
    refine Vs_callIF (s_isTwo l _) dX0_due_9 (lw_S q304 q305 q95 q306) hs_X0_isTwo (by decide) rfl (Nat.le_of_ble_eq_true rfl) ?_
    refine V_if_eqB (tgt := 24) dX0_due_12 (by decide) (fun c12 => ?_) (fun c12 => ?_)
    · refine V_bipush dX0_due_24 lb_m2 ?_
      exact V_ireturn dX0_due_26 rfl (hQ _ _ ⟨_, rfl, ⟨by unfold dueP; rw [if_pos c5, if_neg c12], XR_dr hX2 hM⟩⟩)
    · refine V_aload_n dX0_due_15 rfl ?_
      refine V_iload_n dX0_due_16 rfl ?_
      refine V_iload_n dX0_due_17 rfl ?_
      refine Vz_wI (k' := 0) (n' := 0) (x_dueOf l hX2.1 h4 (p := k) (what := what) hk2) dX0_due_18 (lw_VW q923 q925 qs25 q95 q926) hv_X0_dueOf (by decide) (wX_obj _) cl_X0 rfl rfl (Nat.le_of_ble_eq_true rfl) (fF_FV hfv) (okl_c (ok_r (fF_ok (.inl (Nat.le_of_ble_eq_true rfl)))) (okl_c ok_i (okl_c ok_i okl_0))) oks_0 ⟨Nat.le_of_eq er.1, Nat.le_of_eq er.2⟩ (fun x3 X3 h6 => ?_)
      refine V_goto (tgt := 26) dX0_due_21 (by decide) ?_
      exact V_ireturn dX0_due_26 rfl (hQ _ _ ⟨_, rfl, ⟨by unfold dueP; rw [if_pos c5, if_pos c12, hvk]; exact h6.1, XR_dr (XR_FV hX2 h6.2.1 h6.2.2) hM⟩⟩)
