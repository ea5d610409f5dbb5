/-! PromiseTailor's side: person, promise -/
set_option maxRecDepth 100000
theorem rr_A (G : xSt) : AP (asToldF G) (asToldF (readsF G)) := told_AP (fun j hj => readsF_fr G (by unfold cj at hj; omega))
theorem rr_P {G : xSt} {k : Nat} (hk : k < vN (asToldF (readsF G) 2 0)) : asToldF (readsF G) 3 k = readsF G 3 k ∧ asToldF (readsF G) 4 k = readsF G 4 k := by
  have z := (rr_A G).2.2.2.1 k (by rw [← (rr_A G).2.1]; exact hk)
  rw [z.1, z.2, asToldF_p G (by decide), asToldF_p G (by decide)]
  exact ⟨rfl, rfl⟩
theorem rr_Q {G : xSt} {k : Nat} (hk : k < vN (asToldF (readsF G) 5 0)) : asToldF (readsF G) 6 k = readsF G 6 k ∧ asToldF (readsF G) 7 k = readsF G 7 k ∧ asToldF (readsF G) 8 k = readsF G 8 k ∧ asToldF (readsF G) 9 k = readsF G 9 k := by
  have z := (rr_A G).2.2.2.2 k (by rw [← (rr_A G).2.2.1]; exact hk)
  rw [z.1, z.2.1, z.2.2.1, z.2.2.2, asToldF_p G (by decide), asToldF_p G (by decide), asToldF_p G (by decide), asToldF_p G (by decide)]
  exact ⟨rfl, rfl, rfl, rfl⟩

set_option maxHeartbeats 400000 in
theorem x_person (l : Launch) {G X : xSt} (h0 : XR G X) (hM : MI G) (k what : Int32) : Cx l yX0_person (ws_ yX0_person cX0_person 3 (some .int)) 16 [.ref 0, .int k, .int what] X (fun r X' => ∃ x, r = some (.int x) ∧ x = (personP k what G).1 ∧ XR G X') := by
  refine Cz_start (ls := [some (.ref 0), some (.int k), some (.int what)]) (by decide) rfl (Nat.le_of_ble_eq_true rfl) fF_lo ?_
  intro Q hQ
  have h := XR_rd h0 hM
  refine V_aload_n dX0_person_0 rfl ?_
  refine V_iload_n dX0_person_1 rfl ?_
  refine Vz_vI (k' := rct 1 X) (n' := rst 1 X) (x_isPersonT l h.1.1 k) dX0_person_2 (lw_V q654 q656 qs5 q95 q657) hv_X0_isPerson (by decide) (wX_obj _) cl_X0 rfl rfl (Nat.le_of_ble_eq_true rfl) (gF_fF (by decide)) (okl_c (ok_r (gF_ok (by decide))) (okl_c ok_i (okl_c ok_i okl_0))) oks_0 ⟨Nat.le_refl _, Nat.le_refl _⟩ (fun x2 X2 h2 => ?_)
  obtain ⟨ex, h3, h4, h5⟩ := h2
  rw [ex, rr_2]
  have hX2 := XR_W0 h h3 h5 h4
  have er := rc_01 (X := X) h4 (h5.2.1 47 1 (by decide) (by decide))
  have hfv := FV_FW (FW_0 h5 h4)
  refine V_if_eqB (tgt := 36) dX0_person_5 (by decide) (fun c5 => ?_) (fun c5 => ?_)
  · refine V_bipush dX0_person_36 lb_m2 ?_
    exact V_ireturn dX0_person_38 rfl (hQ _ _ ⟨_, rfl, ⟨by unfold personP; rw [if_neg c5], XR_dr hX2 hM⟩⟩)
  · obtain ⟨k, rfl, hk, hk8⟩ := bd_in (n := 8) (by decide) (RD_p hM).1 c5
    have hvk : vN (nI k) = k := vN_nI (by omega)
    have hk2 := lt_2 hM hk hk8
    have hl := h3.1.2.1
    have s0 := (h3.2.2.2.2.2.2.1.resolve_right (fun z => by rw [h4] at z; exact absurd z.1 (by decide +kernel))).2
    have c0 : cnt X2 0 = vN (asToldF (readsF G) 2 0) := by unfold cnt; rw [show szr 0 = 2 from rfl, s0.1]
    have d0 : k < std X2 0 := by rw [h3.1.2.2.2.2.2.2.2.1 0 (by decide) (by decide), c0]; exact hk2
    have y0 := s0.2 k hk2
    have rp := rr_P hk2
    have tb := h3.2.2.2.2.2.1.1 k hk2
    refine V_iload_n dX0_person_8 rfl ?_
    refine Vs_callIF (s_isTwo l _) dX0_person_9 (lw_S q304 q305 q95 q306) hs_X0_isTwo (by decide) rfl (Nat.le_of_ble_eq_true rfl) ?_
    refine V_if_eqB (tgt := 36) dX0_person_12 (by decide) (fun c12 => ?_) (fun c12 => ?_)
    · refine V_bipush dX0_person_36 lb_m2 ?_
      exact V_ireturn dX0_person_38 rfl (hQ _ _ ⟨_, rfl, ⟨by unfold personP; rw [if_pos c5, if_neg c12], XR_dr hX2 hM⟩⟩)
    · refine V_aload_n dX0_person_15 rfl ?_
      refine V_getf (i := 1) k_X0 dX0_person_16 (by decide) q228 (wX_obj _) rfl ?_
      refine V_getfU (i := 6) k_X2 dX0_person_19 (by decide) q175 q176 (wX_tx0 _) rfl ?_
      refine V_iload_n dX0_person_22 rfl ?_
      refine V_get (q := 0) (hl 0 (by decide)) rfl (by rw [c0]; exact hk2) dX0_person_23 (lw_V q665 q666 q667 q100 q668) (Nat.le_of_ble_eq_true rfl) (by decide) ?_
      rw [eln_0]
      refine V_castE dX0_person_26 q679 (.inl ⟨_, _, _, _, (wX_per _ (d := k) (by omega) d0), cl_X8, rfl⟩) ?_
      refine V_iload_n dX0_person_29 rfl ?_
      refine Vq_v (x_pby l (wX_per X2 (d := k) (by omega) d0) (by rw [y0.1]; exact tb.1) (so3 X2) what) dX0_person_30 (lw_V q680 q681 q682 q114 q683) hv_X8_by (by decide) (wX_per _ (d := k) (by omega) d0) cl_X8 rfl rfl (Nat.le_of_ble_eq_true rfl) ?_
      refine V_goto (tgt := 38) dX0_person_33 (by decide) ?_
      exact V_ireturn dX0_person_38 rfl (hQ _ _ ⟨_, rfl, ⟨by unfold personP personV; rw [if_pos c5, if_pos c12, hvk, y0.1, y0.2, rp.1, rp.2], XR_dr hX2 hM⟩⟩)
set_option maxHeartbeats 400000 in
theorem x_promise (l : Launch) {G X : xSt} (h0 : XR G X) (hM : MI G) (k what : Int32) : Cx l yX0_promise (ws_ yX0_promise cX0_promise 3 (some .int)) 16 [.ref 0, .int k, .int what] X (fun r X' => ∃ x, r = some (.int x) ∧ x = (promiseP k what G).1 ∧ XR G X') := by
  refine Cz_start (ls := [some (.ref 0), some (.int k), some (.int what)]) (by decide) rfl (Nat.le_of_ble_eq_true rfl) fF_lo ?_
  intro Q hQ
  have h := XR_rd h0 hM
  refine V_aload_n dX0_promise_0 rfl ?_
  refine V_iload_n dX0_promise_1 rfl ?_
  refine Vz_vI (k' := rct 0 X) (n' := rst 0 X) (x_isPromiseT l h.1.1 k) dX0_promise_2 (lw_V q703 q705 qs6 q95 q706) hv_X0_isPromise (by decide) (wX_obj _) cl_X0 rfl rfl (Nat.le_of_ble_eq_true rfl) (gF_fF (by decide)) (okl_c (ok_r (gF_ok (by decide))) (okl_c ok_i (okl_c ok_i okl_0))) oks_0 ⟨Nat.le_of_eq (Nat.add_comm _ _), Nat.le_of_eq (Nat.add_comm _ _)⟩ (fun x2 X2 h2 => ?_)
  obtain ⟨ex, h3, h4, h5⟩ := h2
  rw [ex, rr_5]
  have hX2 := XR_W1 h h3 h5 h4
  have er := rc_1 (X := X) h4 (h5.2.1 47 0 (by decide) (by decide))
  have hfv := FV_FW (FW_1 h5 h4)
  refine V_if_eqB (tgt := 41) dX0_promise_5 (by decide) (fun c5 => ?_) (fun c5 => ?_)
  · refine V_bipush dX0_promise_41 lb_m2 ?_
    exact V_ireturn dX0_promise_43 rfl (hQ _ _ ⟨_, rfl, ⟨by unfold promiseP; rw [if_neg c5], XR_dr hX2 hM⟩⟩)
  · obtain ⟨k, rfl, hk, hk8⟩ := bd_in (n := 10) (by decide) (RD_p hM).2 c5
    have hvk : vN (nI k) = k := vN_nI (by omega)
    have hk2 := lt_5 hM hk hk8
    have hl := h3.1.2.1
    have s0 := (h3.2.2.2.2.2.2.2.1.resolve_right (fun z => by rw [h4] at z; exact absurd z.1 (by decide +kernel))).2
    have c0 : cnt X2 1 = vN (asToldF (readsF G) 5 0) := by unfold cnt; rw [show szr 1 = 5 from rfl, s0.1]
    have d0 : k < std X2 1 := by rw [h3.1.2.2.2.2.2.2.2.1 1 (by decide) (by decide), c0]; exact hk2
    have y0 := s0.2 k hk2
    have rp := rr_Q hk2
    refine V_iload_n dX0_promise_8 rfl ?_
    refine V_i2l dX0_promise_9 rfl ?_
    refine V_lconst (v := 0) dX0_promise_10 (by rfl) ?_
    refine V_ldc2 dX0_promise_11 q710 ?_
    refine Vs_callIF (s_in l _ _ _) dX0_promise_14 (lw_S q307 q308 q95 q309) hs_X0_in (by decide) rfl (Nat.le_of_ble_eq_true rfl) ?_
    refine V_if_eqB (tgt := 41) dX0_promise_17 (by decide) (fun c17 => ?_) (fun c17 => ?_)
    · have c9b : ¬ (nI 0 ≤ what ∧ what ≤ nI 3) := by rw [l64_0, show (3 : Int64) = (nI 3).toInt64 from by decide +kernel] at c17; exact fun z => c17 ((i64_in _ _ _).mpr z)
      refine V_bipush dX0_promise_41 lb_m2 ?_
      exact V_ireturn dX0_promise_43 rfl (hQ _ _ ⟨_, rfl, ⟨by unfold promiseP; rw [if_pos c5, if_neg c9b], XR_dr hX2 hM⟩⟩)
    · have c9b : nI 0 ≤ what ∧ what ≤ nI 3 := by rw [l64_0, show (3 : Int64) = (nI 3).toInt64 from by decide +kernel] at c17; exact (i64_in _ _ _).mp c17
      have hw3 : bd what 3 := bd_I (by decide) c9b
      refine V_aload_n dX0_promise_20 rfl ?_
      refine V_getf (i := 2) k_X0 dX0_promise_21 (by decide) q229 (wX_obj _) rfl ?_
      refine V_getfU (i := 6) k_X3 dX0_promise_24 (by decide) q177 q178 (wX_tx1 _) rfl ?_
      refine V_iload_n dX0_promise_27 rfl ?_
      refine V_get (q := 1) (hl 1 (by decide)) rfl (by rw [c0]; exact hk2) dX0_promise_28 (lw_V q665 q666 q667 q100 q668) (Nat.le_of_ble_eq_true rfl) (by decide) ?_
      rw [eln_1]
      refine V_castE dX0_promise_31 q711 (.inl ⟨_, _, _, _, (wX_pro _ (d := k) (by omega) d0), cl_X7, rfl⟩) ?_
      refine V_iload_n dX0_promise_34 rfl ?_
      refine Vq_v (x_qby l (wX_pro X2 (d := k) (by omega) d0) (what := what) hw3) dX0_promise_35 (lw_V q712 q713 q714 q113 q715) hv_X7_by (by decide) (wX_pro _ (d := k) (by omega) d0) cl_X7 rfl rfl (Nat.le_of_ble_eq_true rfl) ?_
      refine V_goto (tgt := 43) dX0_promise_38 (by decide) ?_
      exact V_ireturn dX0_promise_43 rfl (hQ _ _ ⟨_, rfl, ⟨by unfold promiseP promiseV proV; rw [if_pos c5, if_pos c9b, hvk, y0.1, y0.2.1, y0.2.2.1, y0.2.2.2, rp.1, rp.2.1, rp.2.2.1, rp.2.2.2], XR_dr hX2 hM⟩⟩)
