/-! PromiseTailor's side: questions from outside -/
set_option maxRecDepth 100000
/-- THE TIE between the model's numbers G and PromiseTailor's X, between calls -/
def XR (G X : xSt) : Prop := PT (asToldF G) X ∧ X 53 0 = nI 0 ∧ AS X
theorem XR_FV {G X Y : xSt} (h : XR G X) (hp : PT (asToldF G) Y) (hf : FV X Y) : XR G Y := ⟨hp, by rw [hf.1 53 (by omega)]; exact h.2.1, by unfold AS; rw [hf.1 52 (by omega)]; exact h.2.2⟩
/-- the tie asks for the core of the model's numbers alone -/
theorem XR_co {G H X : xSt} (h : XR G X) (hc : ∀ r, (r < 2 ∨ (9 < r ∧ r < 21) ∨ (33 < r ∧ r ≠ 38 ∧ r ≠ 43)) → H r = G r) (hM : MI H) : XR H X := by
  have ha : AP (asToldF G) (asToldF H) := told_AP (fun j hj => hc j (by unfold cj at hj; omega))
  have h10 : G 10 0 = X 10 0 := by exact (asToldF_22 G).symm.trans h.1.2.1.2.1
  have hcn : cnt X 2 = vN (G 10 0) := by rw [h10]; rfl
  have hKD : KD (asToldF H) X := by
    refine ⟨fun i hi => ?_, ?_, (told_25 H).1, (told_25 H).2, told_21 H, h.1.2.1.2.2.2.2.2⟩
    · have z := h.1.2.1.1 i hi
      rw [hcn] at hi
      rw [(told_k G hi).1, (told_k G hi).2] at z
      rw [(told_k H (by rw [hc 10 (by omega)]; exact hi)).1, (told_k H (by rw [hc 10 (by omega)]; exact hi)).2, hc 11 (by omega), hc 12 (by omega)]
      exact z
    · rw [asToldF_22, hc 10 (by omega)]; exact h10
  exact ⟨⟨XT_ap h.1.1 ha (od_rf X) (LI_0 hM).1 (XK_df hKD h.1.2.2) (XO_df hKD h.1.2.2), hKD, h.1.2.2⟩, h.2⟩
theorem XR_rd {G X : xSt} (h : XR G X) (hM : MI G) : XR (readsF G) X := XR_co h (fun r hr => readsF_fr G (by omega)) (MI_reads hM)
theorem XR_dr {G X : xSt} (h : XR (readsF G) X) (hM : MI G) : XR G X := XR_co h (fun r hr => (readsF_fr G (by omega)).symm) hM
theorem XR_find {G X Y : xSt} (h : XR G X) (hr : RD (runsF (asToldF G)) Y) (hw : FW X Y) : XR G Y := XR_FV h (PT_xb h.1 (XB_run hr (AP_rf _)) (FV_FW hw) (od_rf Y) (by unfold df; rw [hw.1 45 (by omega), hw.1 25 (by omega), hw.1 26 (by omega)]; exact h.1.2.2)) (FV_FW hw)
theorem rr_2 (G : xSt) : asToldF (readsF G) 2 0 = readsF G 2 0 := by rw [(told_AP (G := G) (H := readsF G) (fun j hj => readsF_fr G (by unfold cj at hj; omega))).2.1, asToldF_p G (by decide)]
theorem rr_5 (G : xSt) : asToldF (readsF G) 5 0 = readsF G 5 0 := by rw [(told_AP (G := G) (H := readsF G) (fun j hj => readsF_fr G (by unfold cj at hj; omega))).2.2.1, asToldF_p G (by decide)]

set_option maxHeartbeats 400000 in
theorem x_neat (l : Launch) {G X : xSt} (h : XR G X) (d : Int32) : Cx l yX0_neat (ws_ yX0_neat cX0_neat 2 (some .int)) 21 [.ref 0, .int d] X (fun r X' => ∃ x, r = some (.int x) ∧ x = (neatP d G).1 ∧ XR G X') := by
  refine Cz_start (ls := [some (.ref 0), some (.int d)]) (by decide) rfl (Nat.le_of_ble_eq_true rfl) fF_lo ?_
  intro Q hQ
  refine V_aload_n dX0_neat_0 rfl ?_
  refine Vz_vV (k' := 0) (n' := 0) (x_find l h.1.1) dX0_neat_1 (lw_V q789 q791 qs9 q95 q792) hv_X0_find (by decide) (wX_obj _) cl_X0 rfl rfl (Nat.le_of_ble_eq_true rfl) (fun _ z => z) (okl_c (ok_r (fF_ok (.inl (Nat.le_of_ble_eq_true rfl)))) (okl_c ok_i okl_0)) oks_0 ⟨Nat.le_refl _, Nat.le_refl _⟩ (fun X2 h2 => ?_)
  have hR := XR_find h h2.1 h2.2.2
  have hQ2 := RQ_of h2.1 h2.2.1
  refine V_iload_n dX0_neat_4 rfl ?_
  refine Vs_callIF (s_isDay l _) dX0_neat_5 (lw_S q720 q721 q95 q722) hs_X0_isDay (by decide) rfl (Nat.le_of_ble_eq_true rfl) ?_
  refine V_if_eqB (tgt := 19) dX0_neat_8 (by decide) (fun c8 => ?_) (fun c8 => ?_)
  · refine V_bipush dX0_neat_19 lb_m2 ?_
    exact V_ireturn dX0_neat_21 rfl (hQ _ _ ⟨_, rfl, ⟨by unfold neatP; rw [if_neg c8], hR⟩⟩)
  · obtain ⟨d, hd, rfl⟩ := bd_I (by decide) c8
    have hvd : vN (nI d) = d := vN_nI (by omega)
    refine V_aload_n dX0_neat_11 rfl ?_
    refine V_iload_n dX0_neat_12 rfl ?_
    refine Vq_v (x_neatBy l hQ2 (d := d) (by omega)) dX0_neat_13 (lw_V q857 q859 qs17 q95 q860) hv_X0_neatBy (by decide) (wX_obj _) cl_X0 rfl rfl (Nat.le_of_ble_eq_true rfl) ?_
    refine V_goto (tgt := 21) dX0_neat_16 (by decide) ?_
    exact V_ireturn dX0_neat_21 rfl (hQ _ _ ⟨_, rfl, ⟨by unfold neatP RT; rw [if_pos c8, hvd], hR⟩⟩)
set_option maxHeartbeats 400000 in
theorem x_naked (l : Launch) {G X : xSt} (h : XR G X) (d : Int32) : Cx l yX0_naked (ws_ yX0_naked cX0_naked 2 (some .int)) 21 [.ref 0, .int d] X (fun r X' => ∃ x, r = some (.int x) ∧ x = (nakedP d G).1 ∧ XR G X') := by
  refine Cz_start (ls := [some (.ref 0), some (.int d)]) (by decide) rfl (Nat.le_of_ble_eq_true rfl) fF_lo ?_
  intro Q hQ
  refine V_aload_n dX0_naked_0 rfl ?_
  refine Vz_vV (k' := 0) (n' := 0) (x_find l h.1.1) dX0_naked_1 (lw_V q789 q791 qs9 q95 q792) hv_X0_find (by decide) (wX_obj _) cl_X0 rfl rfl (Nat.le_of_ble_eq_true rfl) (fun _ z => z) (okl_c (ok_r (fF_ok (.inl (Nat.le_of_ble_eq_true rfl)))) (okl_c ok_i okl_0)) oks_0 ⟨Nat.le_refl _, Nat.le_refl _⟩ (fun X2 h2 => ?_)
  have hR := XR_find h h2.1 h2.2.2
  have hQ2 := RQ_of h2.1 h2.2.1
  refine V_iload_n dX0_naked_4 rfl ?_
  refine Vs_callIF (s_isDay l _) dX0_naked_5 (lw_S q720 q721 q95 q722) hs_X0_isDay (by decide) rfl (Nat.le_of_ble_eq_true rfl) ?_
  refine V_if_eqB (tgt := 19) dX0_naked_8 (by decide) (fun c8 => ?_) (fun c8 => ?_)
  · refine V_bipush dX0_naked_19 lb_m2 ?_
    exact V_ireturn dX0_naked_21 rfl (hQ _ _ ⟨_, rfl, ⟨by unfold nakedP; rw [if_neg c8], hR⟩⟩)
  · obtain ⟨d, hd, rfl⟩ := bd_I (by decide) c8
    have hvd : vN (nI d) = d := vN_nI (by omega)
    refine V_aload_n dX0_naked_11 rfl ?_
    refine V_iload_n dX0_naked_12 rfl ?_
    refine Vq_v (x_nakedBy l hQ2 (d := d) (by omega)) dX0_naked_13 (lw_V q865 q867 qs18 q95 q868) hv_X0_nakedBy (by decide) (wX_obj _) cl_X0 rfl rfl (Nat.le_of_ble_eq_true rfl) ?_
    refine V_goto (tgt := 21) dX0_naked_16 (by decide) ?_
    exact V_ireturn dX0_naked_21 rfl (hQ _ _ ⟨_, rfl, ⟨by unfold nakedP RT; rw [if_pos c8, hvd], hR⟩⟩)
set_option maxHeartbeats 400000 in
theorem x_longest (l : Launch) {G X : xSt} (h : XR G X) (d : Int32) : Cx l yX0_longest (ws_ yX0_longest cX0_longest 2 (some .int)) 21 [.ref 0, .int d] X (fun r X' => ∃ x, r = some (.int x) ∧ x = (longP d G).1 ∧ XR G X') := by
  refine Cz_start (ls := [some (.ref 0), some (.int d)]) (by decide) rfl (Nat.le_of_ble_eq_true rfl) fF_lo ?_
  intro Q hQ
  refine V_aload_n dX0_longest_0 rfl ?_
  refine Vz_vV (k' := 0) (n' := 0) (x_find l h.1.1) dX0_longest_1 (lw_V q789 q791 qs9 q95 q792) hv_X0_find (by decide) (wX_obj _) cl_X0 rfl rfl (Nat.le_of_ble_eq_true rfl) (fun _ z => z) (okl_c (ok_r (fF_ok (.inl (Nat.le_of_ble_eq_true rfl)))) (okl_c ok_i okl_0)) oks_0 ⟨Nat.le_refl _, Nat.le_refl _⟩ (fun X2 h2 => ?_)
  have hR := XR_find h h2.1 h2.2.2
  have hQ2 := RQ_of h2.1 h2.2.1
  refine V_iload_n dX0_longest_4 rfl ?_
  refine Vs_callIF (s_isDay l _) dX0_longest_5 (lw_S q720 q721 q95 q722) hs_X0_isDay (by decide) rfl (Nat.le_of_ble_eq_true rfl) ?_
  refine V_if_eqB (tgt := 19) dX0_longest_8 (by decide) (fun c8 => ?_) (fun c8 => ?_)
  · refine V_bipush dX0_longest_19 lb_m2 ?_
    exact V_ireturn dX0_longest_21 rfl (hQ _ _ ⟨_, rfl, ⟨by unfold longP; rw [if_neg c8], hR⟩⟩)
  · obtain ⟨d, hd, rfl⟩ := bd_I (by decide) c8
    have hvd : vN (nI d) = d := vN_nI (by omega)
    refine V_aload_n dX0_longest_11 rfl ?_
    refine V_iload_n dX0_longest_12 rfl ?_
    refine Vq_v (x_longestBy l hQ2 (d := d) (by omega)) dX0_longest_13 (lw_V q873 q875 qs19 q95 q876) hv_X0_longestBy (by decide) (wX_obj _) cl_X0 rfl rfl (Nat.le_of_ble_eq_true rfl) ?_
    refine V_goto (tgt := 21) dX0_longest_16 (by decide) ?_
    exact V_ireturn dX0_longest_21 rfl (hQ _ _ ⟨_, rfl, ⟨by unfold longP RT; rw [if_pos c8, hvd], hR⟩⟩)
