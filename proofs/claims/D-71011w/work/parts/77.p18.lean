/-! PromiseTailor's side: coat, stands -/
set_option maxRecDepth 100000

set_option maxHeartbeats 400000 in
theorem x_coat (l : Launch) {G X : xSt} (h0 : XR G X) (hM : MI G) (d k what : Int32) : Cx l yX0_coat (ws_ yX0_coat cX0_coat 4 (some .int)) 21 [.ref 0, .int d, .int k, .int what] X (fun r X' => ∃ x, r = some (.int x) ∧ x = (coatP d k what G).1 ∧ XR G X') := by
  refine Cz_start (ls := [some (.ref 0), some (.int d), some (.int k), some (.int what)]) (by decide) rfl (Nat.le_of_ble_eq_true rfl) fF_lo ?_
  intro Q hQ
  have h := XR_rd h0 hM
  refine V_aload_n dX0_coat_0 rfl ?_
  refine Vz_vV (k' := 0) (n' := 0) (x_find l h.1.1) dX0_coat_1 (lw_V q789 q791 qs9 q95 q792) hv_X0_find (by decide) (wX_obj _) cl_X0 rfl rfl (Nat.le_of_ble_eq_true rfl) (fun _ z => z) (okl_c (ok_r (fF_ok (.inl (Nat.le_of_ble_eq_true rfl)))) (okl_c ok_i (okl_c ok_i (okl_c ok_i okl_0)))) oks_0 ⟨Nat.le_refl _, Nat.le_refl _⟩ (fun X2 h2 => ?_)
  have hR := XR_find h h2.1 h2.2.2
  have hQ2 := RQ_of h2.1 h2.2.1
  obtain ⟨hl, c0, d0, c1, d1, n2, b2, n5, b5, m2, m5, y0, y1⟩ := RD_x h2.1.1 h2.1.2.1
  have e2 : X2 2 0 = readsF G 2 0 := y0.1.trans ((congrFun (runsF_fr _ 2 (by omega)) 0).trans (rr_2 G))
  have e5 : X2 5 0 = readsF G 5 0 := y1.1.trans ((congrFun (runsF_fr _ 5 (by omega)) 0).trans (rr_5 G))
  refine V_iload_n dX0_coat_4 rfl ?_
  refine Vs_callIF (s_isDay l _) dX0_coat_5 (lw_S q720 q721 q95 q722) hs_X0_isDay (by decide) rfl (Nat.le_of_ble_eq_true rfl) ?_
  refine V_if_eqB (tgt := 41) dX0_coat_8 (by decide) (fun c8 => ?_) (fun c8 => ?_)
  · refine V_bipush dX0_coat_41 lb_m2 ?_
    exact V_ireturn dX0_coat_43 rfl (hQ _ _ ⟨_, rfl, ⟨by unfold coatP; rw [if_neg c8], XR_dr hR hM⟩⟩)
  · obtain ⟨d, hd, rfl⟩ := bd_I (by decide) c8
    have hvd : vN (nI d) = d := vN_nI (by omega)
    refine V_aload_n dX0_coat_11 rfl ?_
    refine V_iload_n dX0_coat_12 rfl ?_
    refine Vq_v (x_isPersonF l h2.1.2.1.1 (hl 0 (by decide)) k) dX0_coat_13 (lw_V q654 q656 qs5 q95 q657) hv_X0_isPerson (by decide) (wX_obj _) cl_X0 rfl rfl (Nat.le_of_ble_eq_true rfl) ?_
    rw [e2]
    refine V_if_eqB (tgt := 41) dX0_coat_16 (by decide) (fun c16 => ?_) (fun c16 => ?_)
    · refine V_bipush dX0_coat_41 lb_m2 ?_
      exact V_ireturn dX0_coat_43 rfl (hQ _ _ ⟨_, rfl, ⟨by unfold coatP; rw [if_pos c8, if_neg c16], XR_dr hR hM⟩⟩)
    · obtain ⟨k, rfl, hk, hk8⟩ := bd_in (n := 8) (by decide) (RD_p hM).1 c16
      have hvk : vN (nI k) = k := vN_nI (by omega)
      have hk3 : k < vN (runsF (asToldF (readsF G)) 2 0) := by rw [runsF_fr _ 2 (by omega)]; exact lt_2 hM hk hk8
      refine V_iload_n dX0_coat_19 rfl ?_
      refine V_i2l dX0_coat_20 rfl ?_
      refine V_lconst (v := 0) dX0_coat_21 (by rfl) ?_
      refine V_ldc2 dX0_coat_22 q743 ?_
      refine Vs_callIF (s_in l _ _ _) dX0_coat_25 (lw_S q307 q308 q95 q309) hs_X0_in (by decide) rfl (Nat.le_of_ble_eq_true rfl) ?_
      refine V_if_eqB (tgt := 41) dX0_coat_28 (by decide) (fun c28 => ?_) (fun c28 => ?_)
      · have c9b : ¬ (nI 0 ≤ what ∧ what ≤ nI 2) := by rw [l64_0, show (2 : Int64) = (nI 2).toInt64 from by decide +kernel] at c28; exact fun z => c28 ((i64_in _ _ _).mpr z)
        refine V_bipush dX0_coat_41 lb_m2 ?_
        exact V_ireturn dX0_coat_43 rfl (hQ _ _ ⟨_, rfl, ⟨by unfold coatP; rw [if_pos c8, if_pos c16, if_neg c9b], XR_dr hR hM⟩⟩)
      · have c9b : nI 0 ≤ what ∧ what ≤ nI 2 := by rw [l64_0, show (2 : Int64) = (nI 2).toInt64 from by decide +kernel] at c28; exact (i64_in _ _ _).mp c28
        refine V_aload_n dX0_coat_31 rfl ?_
        refine V_iload_n dX0_coat_32 rfl ?_
        refine V_iload_n dX0_coat_33 rfl ?_
        refine V_iload_n dX0_coat_34 rfl ?_
        refine Vq_v (x_coatBy l hQ2 (d := d) (k := k) (by omega) hk3 what) dX0_coat_35 (lw_V q841 q843 qs15 q95 q844) hv_X0_coatBy (by decide) (wX_obj _) cl_X0 rfl rfl (Nat.le_of_ble_eq_true rfl) ?_
        refine V_goto (tgt := 43) dX0_coat_38 (by decide) ?_
        exact V_ireturn dX0_coat_43 rfl (hQ _ _ ⟨_, rfl, ⟨by unfold coatP RT; rw [if_pos c8, if_pos c16, if_pos c9b, hvd, hvk], XR_dr hR hM⟩⟩)
set_option maxHeartbeats 400000 in
theorem x_stands (l : Launch) {G X : xSt} (h0 : XR G X) (hM : MI G) (d k : Int32) : Cx l yX0_stands (ws_ yX0_stands cX0_stands 3 (some .int)) 21 [.ref 0, .int d, .int k] X (fun r X' => ∃ x, r = some (.int x) ∧ x = (standsP d k G).1 ∧ XR G X') := by
  refine Cz_start (ls := [some (.ref 0), some (.int d), some (.int k)]) (by decide) rfl (Nat.le_of_ble_eq_true rfl) fF_lo ?_
  intro Q hQ
  have h := XR_rd h0 hM
  refine V_aload_n dX0_stands_0 rfl ?_
  refine Vz_vV (k' := 0) (n' := 0) (x_find l h.1.1) dX0_stands_1 (lw_V q789 q791 qs9 q95 q792) hv_X0_find (by decide) (wX_obj _) cl_X0 rfl rfl (Nat.le_of_ble_eq_true rfl) (fun _ z => z) (okl_c (ok_r (fF_ok (.inl (Nat.le_of_ble_eq_true rfl)))) (okl_c ok_i (okl_c ok_i okl_0))) oks_0 ⟨Nat.le_refl _, Nat.le_refl _⟩ (fun X2 h2 => ?_)
  have hR := XR_find h h2.1 h2.2.2
  have hQ2 := RQ_of h2.1 h2.2.1
  obtain ⟨hl, c0, d0, c1, d1, n2, b2, n5, b5, m2, m5, y0, y1⟩ := RD_x h2.1.1 h2.1.2.1
  have e2 : X2 2 0 = readsF G 2 0 := y0.1.trans ((congrFun (runsF_fr _ 2 (by omega)) 0).trans (rr_2 G))
  have e5 : X2 5 0 = readsF G 5 0 := y1.1.trans ((congrFun (runsF_fr _ 5 (by omega)) 0).trans (rr_5 G))
  refine V_iload_n dX0_stands_4 rfl ?_
  refine Vs_callIF (s_isDay l _) dX0_stands_5 (lw_S q720 q721 q95 q722) hs_X0_isDay (by decide) rfl (Nat.le_of_ble_eq_true rfl) ?_
  refine V_if_eqB (tgt := 30) dX0_stands_8 (by decide) (fun c8 => ?_) (fun c8 => ?_)
  · refine V_bipush dX0_stands_30 lb_m2 ?_
    exact V_ireturn dX0_stands_32 rfl (hQ _ _ ⟨_, rfl, ⟨by unfold standsP; rw [if_neg c8], XR_dr hR hM⟩⟩)
  · obtain ⟨d, hd, rfl⟩ := bd_I (by decide) c8
    have hvd : vN (nI d) = d := vN_nI (by omega)
    refine V_aload_n dX0_stands_11 rfl ?_
    refine V_iload_n dX0_stands_12 rfl ?_
    refine Vq_v (x_isPromiseF l h2.1.2.1.2 (hl 1 (by decide)) k) dX0_stands_13 (lw_V q703 q705 qs6 q95 q706) hv_X0_isPromise (by decide) (wX_obj _) cl_X0 rfl rfl (Nat.le_of_ble_eq_true rfl) ?_
    rw [e5]
    refine V_if_eqB (tgt := 30) dX0_stands_16 (by decide) (fun c16 => ?_) (fun c16 => ?_)
    · refine V_bipush dX0_stands_30 lb_m2 ?_
      exact V_ireturn dX0_stands_32 rfl (hQ _ _ ⟨_, rfl, ⟨by unfold standsP; rw [if_pos c8, if_neg c16], XR_dr hR hM⟩⟩)
    · obtain ⟨k, rfl, hk, hk8⟩ := bd_in (n := 10) (by decide) (RD_p hM).2 c16
      have hvk : vN (nI k) = k := vN_nI (by omega)
      have hk3 : k < vN (runsF (asToldF (readsF G)) 5 0) := by rw [runsF_fr _ 5 (by omega)]; exact lt_5 hM hk hk8
      refine V_aload_n dX0_stands_19 rfl ?_
      refine V_getf (i := 11) k_X0 dX0_stands_20 (by decide) q238 (wX_obj _) rfl ?_
      refine V_iload_n dX0_stands_23 rfl ?_
      refine Vx_aa_statesBy dX0_stands_24 rfl (by omega) ?_
      refine V_iload_n dX0_stands_25 rfl ?_
      refine Vx_ld_srow dX0_stands_26 (by omega) rfl (by omega) ?_
      rw [RQ_32 hQ2 (show d < 24 by omega) hk3]
      refine V_goto (tgt := 32) dX0_stands_27 (by decide) ?_
      exact V_ireturn dX0_stands_32 rfl (hQ _ _ ⟨_, rfl, ⟨by unfold standsP RT; rw [if_pos c8, if_pos c16, hvd, hvk], XR_dr hR hM⟩⟩)
