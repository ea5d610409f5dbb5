/-! PromiseTailor's side: plans from outside, keep never hush year -/
set_option maxRecDepth 100000
theorem XR_YV {G X Y : xSt} (h : XR G X) (hp : PT (asToldF G) Y) (hf : YV X Y) : XR G Y := ⟨hp, hf.2.1, hf.2.2.1⟩

theorem fG_ok {X : xSt} {b : Nat} (h : b < 256) : ¬ fG X b := fun z => by
  rcases z with z | z | z
  · exact fF_ok (.inl h) z
  · omega
  · omega
theorem m1_cases {i : Int32} (h : -1 ≤ i ∧ i ≤ nI 1) : i = -1 ∨ i = nI 0 ∨ i = nI 1 := by
  by_cases c : nI 0 ≤ i
  · obtain ⟨j, hj, rfl⟩ := bd_I (by decide) ⟨c, h.2⟩
    rcases (show j = 0 ∨ j = 1 by omega) with e | e
    · rw [e]; exact .inr (.inl rfl)
    · rw [e]; exact .inr (.inr rfl)
  · refine .inl (Int32.toInt_inj.mp ?_)
    have a := Int32.le_iff_toInt_le.mp h.1
    have b := Int32.lt_iff_toInt_lt.mp (Int32.not_le.mp c)
    rw [show (-1 : Int32).toInt = -1 from by decide +kernel] at a ⊢
    rw [show (nI 0).toInt = 0 from by decide +kernel] at b
    omega
set_option maxHeartbeats 400000 in
theorem x_keep (l : Launch) {G X : xSt} (h : XR G X) (hM : MI G) (day what : Int32) : Cx l yX0_keep (ws_ yX0_keep cX0_keep 3 (some .int)) 22 [.ref 0, .int day, .int what] X (fun r X' => ∃ x, r = some (.int x) ∧ x = (keepP day what G).1 ∧ XR G X') := by
  refine Cz_start (ls := [some (.ref 0), some (.int day), some (.int what)]) (by decide) rfl (Nat.le_of_ble_eq_true rfl) fF_lo ?_
  intro Q hQ
  have hS : SV (asToldF G) := (LI_0 hM).2.1
  refine V_iload_n dX0_keep_0 rfl ?_
  refine Vs_callIF (s_isDay l _) dX0_keep_1 (lw_S q720 q721 q95 q722) hs_X0_isDay (by decide) rfl (Nat.le_of_ble_eq_true rfl) ?_
  refine V_if_eqB (tgt := 23) dX0_keep_4 (by decide) (fun c4 => ?_) (fun c4 => ?_)
  · refine V_bipush dX0_keep_23 lb_m2 ?_
    exact V_ireturn dX0_keep_25 rfl (hQ _ _ ⟨_, rfl, ⟨by unfold keepP; rw [if_neg c4], h⟩⟩)
  · obtain ⟨day, hd, rfl⟩ := bd_I (by decide) c4
    have hvd : vN (nI day) = day := vN_nI (by omega)
    refine V_iload_n dX0_keep_7 rfl ?_
    refine Vs_callIF (s_isTwo l _) dX0_keep_8 (lw_S q304 q305 q95 q306) hs_X0_isTwo (by decide) rfl (Nat.le_of_ble_eq_true rfl) ?_
    refine V_if_eqB (tgt := 23) dX0_keep_11 (by decide) (fun c11 => ?_) (fun c11 => ?_)
    · refine V_bipush dX0_keep_23 lb_m2 ?_
      exact V_ireturn dX0_keep_25 rfl (hQ _ _ ⟨_, rfl, ⟨by unfold keepP; rw [if_pos c4, if_neg c11], h⟩⟩)
    · refine V_aload_n dX0_keep_14 rfl ?_
      refine V_iload_n dX0_keep_15 rfl ?_
      refine V_iload_n dX0_keep_16 rfl ?_
      refine Vz_wI (k' := 0) (n' := 0) (x_keepOf l h.1 (XR_10 h) (day := day) (what := what) (by omega)) dX0_keep_17 (lw_VW q915 q917 qs24 q95 q918) hv_X0_keepOf (by decide) (wX_obj _) cl_X0 rfl rfl (Nat.le_of_ble_eq_true rfl) (fun _ z => z) (okl_c (ok_r (fF_ok (.inl (Nat.le_of_ble_eq_true rfl)))) (okl_c ok_i (okl_c ok_i okl_0))) oks_0 ⟨Nat.le_refl _, Nat.le_refl _⟩ (fun x3 X3 h6 => ?_)
      refine V_goto (tgt := 25) dX0_keep_20 (by decide) ?_
      exact V_ireturn dX0_keep_25 rfl (hQ _ _ ⟨_, rfl, ⟨by unfold keepP; rw [if_pos c4, if_pos c11, hvd]; exact h6.1, XR_FV h h6.2.1 h6.2.2⟩⟩)
set_option maxHeartbeats 400000 in
theorem x_never (l : Launch) {G X : xSt} (h : XR G X) (hM : MI G)  : Cx l yX0_never (ws_ yX0_never cX0_never 1 (some .int)) 23 [.ref 0] X (fun r X' => ∃ x, r = some (.int x) ∧ x = (neverP G).1 ∧ XR G X') := by
  refine Cz_start (ls := [some (.ref 0)]) (by decide) rfl (Nat.le_of_ble_eq_true rfl) fF_lo ?_
  intro Q hQ
  have hS : SV (asToldF G) := (LI_0 hM).2.1
  refine V_aload_n dX0_never_0 rfl ?_
  refine Vz_wI (k' := 0) (n' := 0) (x_neverNow l h.1 (XR_10 h) hS) dX0_never_1 (lw_VW q954 q956 qs28 q95 q957) hv_X0_neverNow (by decide) (wX_obj _) cl_X0 rfl rfl (Nat.le_of_ble_eq_true rfl) (fun _ z => z) (okl_c (ok_r (fF_ok (.inl (Nat.le_of_ble_eq_true rfl)))) okl_0) oks_0 ⟨Nat.le_refl _, Nat.le_refl _⟩ (fun x3 X3 h6 => ?_)
  exact V_ireturn dX0_never_4 rfl (hQ _ _ ⟨_, rfl, ⟨by unfold neverP; exact h6.1, XR_FV h h6.2.1 h6.2.2⟩⟩)
set_option maxHeartbeats 400000 in
theorem x_hush (l : Launch) {G X : xSt} (h : XR G X) (hM : MI G) (i : Int32) : Cx l yX0_hush (ws_ yX0_hush cX0_hush 2 (some .int)) 23 [.ref 0, .int i] X (fun r X' => ∃ x, r = some (.int x) ∧ x = (hushP i G).1 ∧ XR G X') := by
  refine Cz_start (ls := [some (.ref 0), some (.int i)]) (by decide) rfl (Nat.le_of_ble_eq_true rfl) fF_lo ?_
  intro Q hQ
  have hS : SV (asToldF G) := (LI_0 hM).2.1
  refine V_iload_n dX0_hush_0 rfl ?_
  refine V_i2l dX0_hush_1 rfl ?_
  refine V_ldc2 dX0_hush_2 q931 ?_
  refine V_lconst (v := 1) dX0_hush_5 (by rfl) ?_
  refine Vs_callIF (s_in l _ _ _) dX0_hush_6 (lw_S q307 q308 q95 q309) hs_X0_in (by decide) rfl (Nat.le_of_ble_eq_true rfl) ?_
  refine V_if_eqB (tgt := 20) dX0_hush_9 (by decide) (fun c9 => ?_) (fun c9 => ?_)
  · have c9b : ¬ (-1 ≤ i ∧ i ≤ nI 1) := by rw [show (-1 : Int64) = (-1 : Int32).toInt64 from by decide +kernel, l64_1] at c9; exact fun z => c9 ((i64_in _ _ _).mpr z)
    refine V_bipush dX0_hush_20 lb_m2 ?_
    exact V_ireturn dX0_hush_22 rfl (hQ _ _ ⟨_, rfl, ⟨by unfold hushP; rw [if_neg c9b], h⟩⟩)
  · have c9b : -1 ≤ i ∧ i ≤ nI 1 := by rw [show (-1 : Int64) = (-1 : Int32).toInt64 from by decide +kernel, l64_1] at c9; exact (i64_in _ _ _).mp c9
    have hi : i = -1 ∨ i = nI 0 ∨ i = nI 1 := m1_cases c9b
    refine V_aload_n dX0_hush_12 rfl ?_
    refine V_iload_n dX0_hush_13 rfl ?_
    refine Vz_vI (k' := 0) (n' := 0) (x_hushBy l h.1 hi) dX0_hush_14 (lw_V q932 q934 qs26 q95 q935) hv_X0_hushBy (by decide) (wX_obj _) cl_X0 rfl rfl (Nat.le_of_ble_eq_true rfl) (fun _ z => z) (okl_c (ok_r (fF_ok (.inl (Nat.le_of_ble_eq_true rfl)))) (okl_c ok_i okl_0)) oks_0 ⟨Nat.le_refl _, Nat.le_refl _⟩ (fun x3 X3 h6 => ?_)
    refine V_goto (tgt := 22) dX0_hush_17 (by decide) ?_
    exact V_ireturn dX0_hush_22 rfl (hQ _ _ ⟨_, rfl, ⟨by unfold hushP; rw [if_pos c9b]; exact h6.1, XR_FV h h6.2.1 h6.2.2⟩⟩)
set_option maxHeartbeats 400000 in
theorem x_year (l : Launch) {G X : xSt} (h : XR G X) (hM : MI G) (seed n what : Int32) : Cz l yX0_year (ws_ yX0_year cX0_year 4 (some .int)) 23 (rc X + 1) (rs X + 10) (fG X) [.ref 0, .int seed, .int n, .int what] X (fun r X' => ∃ x, r = some (.int x) ∧ x = (yearP seed n what G).1 ∧ XR G X') := by
  refine Cz_start (ls := [some (.ref 0), some (.int seed), some (.int n), some (.int what)]) (by decide) rfl (Nat.le_of_ble_eq_true rfl) fG_lo ?_
  intro Q hQ
  have hS : SV (asToldF G) := (LI_0 hM).2.1
  refine V_iload_n dX0_year_0 rfl ?_
  refine V_i2l dX0_year_1 rfl ?_
  refine V_lconst (v := 0) dX0_year_2 (by rfl) ?_
  refine V_ldc2 dX0_year_3 q1014 ?_
  refine Vs_callIF (s_in l _ _ _) dX0_year_6 (lw_S q307 q308 q95 q309) hs_X0_in (by decide) rfl (Nat.le_of_ble_eq_true rfl) ?_
  refine V_if_eqB (tgt := 29) dX0_year_9 (by decide) (fun c9 => ?_) (fun c9 => ?_)
  · have c9b : ¬ (nI 0 ≤ n ∧ n ≤ nI 8) := by rw [l64_0, show (8 : Int64) = (nI 8).toInt64 from by decide +kernel] at c9; exact fun z => c9 ((i64_in _ _ _).mpr z)
    refine V_bipush dX0_year_29 lb_m2 ?_
    exact V_ireturn dX0_year_31 rfl (hQ _ _ ⟨_, rfl, ⟨by unfold yearP; rw [if_neg c9b], h⟩⟩)
  · have c9b : nI 0 ≤ n ∧ n ≤ nI 8 := by rw [l64_0, show (8 : Int64) = (nI 8).toInt64 from by decide +kernel] at c9; exact (i64_in _ _ _).mp c9
    obtain ⟨n, hn, rfl⟩ := bd_I (by decide) c9b
    have hvn : vN (nI n) = n := vN_nI (by omega)
    refine V_iload_n dX0_year_12 rfl ?_
    refine Vs_callIF (s_isTwo l _) dX0_year_13 (lw_S q304 q305 q95 q306) hs_X0_isTwo (by decide) rfl (Nat.le_of_ble_eq_true rfl) ?_
    refine V_if_eqB (tgt := 29) dX0_year_16 (by decide) (fun c16 => ?_) (fun c16 => ?_)
    · refine V_bipush dX0_year_29 lb_m2 ?_
      exact V_ireturn dX0_year_31 rfl (hQ _ _ ⟨_, rfl, ⟨by unfold yearP; rw [if_pos c9b, if_neg c16], h⟩⟩)
    · refine V_aload_n dX0_year_19 rfl ?_
      refine V_iload_n dX0_year_20 rfl ?_
      refine V_iload_n dX0_year_21 rfl ?_
      refine V_iload_n dX0_year_22 rfl ?_
      refine Vz_wI (k' := 0) (n' := 0) (x_yearOf l h.1 h.2.1 h.2.2 (seed := seed) (n := n) (what := what) hn) dX0_year_23 (lw_VW q1015 q1017 qs36 q95 q1018) hv_X0_yearOf (by decide) (wX_obj _) cl_X0 rfl rfl (Nat.le_of_ble_eq_true rfl) (fun _ z => z) (okl_c (ok_r (fG_ok ( (Nat.le_of_ble_eq_true rfl)))) (okl_c ok_i (okl_c ok_i (okl_c ok_i okl_0)))) oks_0 ⟨Nat.le_refl _, Nat.le_refl _⟩ (fun x3 X3 h6 => ?_)
      refine V_goto (tgt := 31) dX0_year_26 (by decide) ?_
      exact V_ireturn dX0_year_31 rfl (hQ _ _ ⟨_, rfl, ⟨by unfold yearP; rw [if_pos c9b, if_pos c16, hvn]; exact h6.1, XR_YV h h6.2.1 h6.2.2⟩⟩)
