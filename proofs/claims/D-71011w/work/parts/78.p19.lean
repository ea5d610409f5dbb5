/-! PromiseTailor's side: word from outside -/
set_option maxRecDepth 100000

set_option maxHeartbeats 4000000 in
theorem x_no (l : Launch) {w : xW} (v0 : Int32) : Cq l yX0_no cX0_no 1 (some .long) 0 [.int v0] w (some (.long (noF v0))) := by
  refine Cq_start (ls := [some (.int v0)]) (by decide) rfl (Nat.le_of_ble_eq_true rfl) ?_
  intro Q hQ
  refine V_ldc2 dX0_no_0 q1009 ?_
  refine V_iload_n dX0_no_3 rfl ?_
  refine V_i2l dX0_no_4 rfl ?_
  refine V_lsub dX0_no_5 ?_
  exact V_lreturn dX0_no_6 rfl hQ
set_option maxHeartbeats 400000 in
theorem x_word (l : Launch) {G X : xSt} (h0 : XR G X) (hM : MI G) (c k day what : Int32) : Cx l yX0_word (ws_ yX0_word cX0_word 5 (some .long)) 70 [.ref 0, .int c, .int k, .int day, .int what] X (fun r X' => ∃ x, r = some (.long x) ∧ x = (wordP c k day what G).1 ∧ XR G X') := by
  refine Cz_start (ls := [some (.ref 0), some (.int c), some (.int k), some (.int day), some (.int what)]) (by decide) rfl (Nat.le_of_ble_eq_true rfl) fF_lo ?_
  intro Q hQ
  have h := XR_rd h0 hM
  have h10 := XR_10 h
  refine V_iload_n dX0_word_0 rfl ?_
  refine V_i2l dX0_word_1 rfl ?_
  refine V_lconst (v := 0) dX0_word_2 (by rfl) ?_
  refine V_ldc2 dX0_word_3 q995 ?_
  refine Vs_callIF (s_in l _ _ _) dX0_word_6 (lw_S q307 q308 q95 q309) hs_X0_in (by decide) rfl (Nat.le_of_ble_eq_true rfl) ?_
  refine V_if_eqB (tgt := 47) dX0_word_9 (by decide) (fun c9 => ?_) (fun c9 => ?_)
  · have c9b : ¬ (nI 0 ≤ c ∧ c ≤ nI 16) := by rw [l64_0, show (16 : Int64) = (nI 16).toInt64 from by decide +kernel] at c9; exact fun z => c9 ((i64_in _ _ _).mpr z)
    refine V_bipush dX0_word_47 lb_m2 ?_
    refine Vq_s (x_no l (-2)) dX0_word_49 (lw_S q1006 q1007 q95 q1008) hs_X0_no (by decide) rfl (Nat.le_of_ble_eq_true rfl) ?_
    exact V_lreturn dX0_word_52 rfl (hQ _ _ ⟨_, rfl, ⟨by unfold wordP; rw [if_neg c9b], h0⟩⟩)
  · have c9b : nI 0 ≤ c ∧ c ≤ nI 16 := by rw [l64_0, show (16 : Int64) = (nI 16).toInt64 from by decide +kernel] at c9; exact (i64_in _ _ _).mp c9
    obtain ⟨c, hc, rfl⟩ := bd_I (by decide) c9b
    have hvc : vN (nI c) = c := vN_nI (by omega)
    refine V_aload_n dX0_word_12 rfl ?_
    refine V_iload_n dX0_word_13 rfl ?_
    refine Vz_vI (k' := rct 1 X) (n' := rst 1 X) (x_isPersonT l h.1.1 k) dX0_word_14 (lw_V q654 q656 qs5 q95 q657) hv_X0_isPerson (by decide) (wX_obj _) cl_X0 rfl rfl (Nat.le_of_ble_eq_true rfl) (gF_fF (by decide)) (okl_c (ok_r (gF_ok (by decide))) (okl_c ok_i (okl_c ok_i (okl_c ok_i (okl_c ok_i okl_0))))) oks_0 ⟨Nat.le_refl _, Nat.le_refl _⟩ (fun x2 X2 h2 => ?_)
    obtain ⟨ex, h3, h4, h5⟩ := h2
    rw [ex, rr_2]
    have hX2 := XR_W0 h h3 h5 h4
    have er := rc_01 (X := X) h4 (h5.2.1 47 1 (by decide) (by decide))
    have hfv := FV_FW (FW_0 h5 h4)
    refine V_if_eqB (tgt := 47) dX0_word_17 (by decide) (fun c17 => ?_) (fun c17 => ?_)
    · refine V_bipush dX0_word_47 lb_m2 ?_
      refine Vq_s (x_no l (-2)) dX0_word_49 (lw_S q1006 q1007 q95 q1008) hs_X0_no (by decide) rfl (Nat.le_of_ble_eq_true rfl) ?_
      exact V_lreturn dX0_word_52 rfl (hQ _ _ ⟨_, rfl, ⟨by unfold wordP; rw [if_pos c9b, if_neg c17], XR_dr hX2 hM⟩⟩)
    · obtain ⟨k, rfl, hk, hk8⟩ := bd_in (n := 8) (by decide) (RD_p hM).1 c17
      have hvk : vN (nI k) = k := vN_nI (by omega)
      have hk2 := lt_2 hM hk hk8
      refine V_iload_n dX0_word_20 rfl ?_
      refine Vs_callIF (s_isDay l _) dX0_word_21 (lw_S q720 q721 q95 q722) hs_X0_isDay (by decide) rfl (Nat.le_of_ble_eq_true rfl) ?_
      refine V_if_eqB (tgt := 47) dX0_word_24 (by decide) (fun c24 => ?_) (fun c24 => ?_)
      · refine V_bipush dX0_word_47 lb_m2 ?_
        refine Vq_s (x_no l (-2)) dX0_word_49 (lw_S q1006 q1007 q95 q1008) hs_X0_no (by decide) rfl (Nat.le_of_ble_eq_true rfl) ?_
        exact V_lreturn dX0_word_52 rfl (hQ _ _ ⟨_, rfl, ⟨by unfold wordP; rw [if_pos c9b, if_pos c17, if_neg c24], XR_dr hX2 hM⟩⟩)
      · obtain ⟨day, hd, rfl⟩ := bd_I (by decide) c24
        have hvd : vN (nI day) = day := vN_nI (by omega)
        refine V_iload dX0_word_27 rfl ?_
        refine Vs_callIF (s_isTwo l _) dX0_word_29 (lw_S q304 q305 q95 q306) hs_X0_isTwo (by decide) rfl (Nat.le_of_ble_eq_true rfl) ?_
        refine V_if_eqB (tgt := 47) dX0_word_32 (by decide) (fun c32 => ?_) (fun c32 => ?_)
        · refine V_bipush dX0_word_47 lb_m2 ?_
          refine Vq_s (x_no l (-2)) dX0_word_49 (lw_S q1006 q1007 q95 q1008) hs_X0_no (by decide) rfl (Nat.le_of_ble_eq_true rfl) ?_
          exact V_lreturn dX0_word_52 rfl (hQ _ _ ⟨_, rfl, ⟨by unfold wordP; rw [if_pos c9b, if_pos c17, if_pos c24, if_neg c32], XR_dr hX2 hM⟩⟩)
        · refine V_aload_n dX0_word_35 rfl ?_
          refine V_iload_n dX0_word_36 rfl ?_
          refine V_iload_n dX0_word_37 rfl ?_
          refine V_iload_n dX0_word_38 rfl ?_
          refine V_iload dX0_word_39 rfl ?_
          refine Vz_wL (k' := 0) (n' := 0) (x_wordOf l hX2.1 (XR_10 hX2) (c := c) (k := k) (day := day) (what := what) hc hk2 (by omega)) dX0_word_41 (lw_VW q996 q998 qs35 q95 q999) hv_X0_wordOf (by decide) (wX_obj _) cl_X0 rfl rfl (Nat.le_of_ble_eq_true rfl) (fF_FV hfv) (okl_c (ok_r (fF_ok (.inl (Nat.le_of_ble_eq_true rfl)))) (okl_c ok_i (okl_c ok_i (okl_c ok_i (okl_c ok_i okl_0))))) oks_0 ⟨Nat.le_of_eq er.1, Nat.le_of_eq er.2⟩ (fun x3 X3 h6 => ?_)
          refine V_goto (tgt := 52) dX0_word_44 (by decide) ?_
          exact V_lreturn dX0_word_52 rfl (hQ _ _ ⟨_, rfl, ⟨by unfold wordP; rw [if_pos c9b, if_pos c17, if_pos c24, if_pos c32, hvc, hvk, hvd]; exact h6.1, XR_dr (XR_FV hX2 h6.2.1 h6.2.2) hM⟩⟩)
