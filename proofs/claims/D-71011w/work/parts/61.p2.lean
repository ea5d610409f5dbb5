/-! PromiseTailor's side: plans, keep -/
set_option maxRecDepth 100000
/-- one keeping more -/
def KQ (q d : Nat) (R T : xSt) : Prop := T 21 0 = R 21 0 ∧ T 25 0 = R 25 0 ∧ T 26 0 = R 26 0 ∧ T 22 0 = nI (q + 1) ∧ T 23 q = nI d ∧ ∀ i, i < q → T 23 i = R 23 i ∧ T 24 i = R 24 i
theorem KQ_fr {q d : Nat} {R T U : xSt} (h : KQ q d R T) (g : fr T U) : KQ q d R U := by
  unfold KQ
  rw [g 21 (by omega), g 22 (by omega), g 23 (by omega), g 24 (by omega), g 25 (by omega), g 26 (by omega)]
  exact h
theorem KQ_24 {q d : Nat} {v : Int32} {R T : xSt} (h : KQ q d R T) : KQ q d R (mwr T 24 q v) := by
  refine ⟨h.1, h.2.1, h.2.2.1, h.2.2.2.1, h.2.2.2.2.1, fun i hi => ⟨(h.2.2.2.2.2 i hi).1, ?_⟩⟩
  rw [mwr_q _ _ _ _ (by omega)]
  exact (h.2.2.2.2.2 i hi).2
theorem XK_q {q d : Nat} {R T X : xSt} (h : KD R X) (hq : cnt X 2 = q) (g : KQ q d R T) (hd : d < 24) (h24 : T 24 q = X 45 1) (hb : bd (X 45 1) 9) (d0 : X 45 0 = nI d) (d1 : X 25 0 = nI 0) (d2 : X 26 0 = nI 0) : XK T X := by
  refine ⟨fun i hi => ?_, .inr ⟨d, hd, d0, ?_, ?_, ?_, hb, ?_⟩, ?_, ?_, h.2.2.2.2.2⟩
  · rw [(g.2.2.2.2.2 i (by omega)).1, (g.2.2.2.2.2 i (by omega)).2]; exact h.1 i hi
  · rw [hq]; exact g.2.2.2.1
  · rw [hq]; exact g.2.2.2.2.1
  · rw [hq]; exact h24
  · rw [g.2.1]; exact h.2.2.1
  · rw [g.2.1, d1]; exact h.2.2.1.symm
  · rw [g.2.2.1, d2]; exact h.2.2.2.1.symm
theorem rc_1 {X Y : xSt} (h : Y 47 1 = nI 1) (g : Y 47 0 = X 47 0) : rc Y = rct 0 X ∧ rs Y = rst 0 X := by
  unfold rc rs rct rst
  rw [if_pos h, if_pos h, g]
  exact ⟨rfl, rfl⟩

set_option maxHeartbeats 4000000 in
theorem x_keepOf (l : Launch) {R X : xSt} (h : PT R X) (h10 : R 10 0 = X 10 0) {day : Nat} {what : Int32} (hday : day < 24) : Cx l yX0_keepOf (wsW_ yX0_keepOf cX0_keepOf 6 (some .int) [(5, 73, 81, 0), (81, 83, 81, 0)]) 21 [.ref 0, .int (nI day), .int what] X (fun r X' => ∃ x, r = some (.int x) ∧ x = (keepF day what R).1 ∧ PT R X' ∧ FV X X') := by
  refine Cz_startW (ls := [some (.ref 0), some (.int (nI day)), some (.int what), none, none, none]) (by decide) rfl (Nat.le_of_ble_eq_true rfl) fF_lo ?_
  intro Q hQ
  have p5 := bd_v h.1.2.2.2.2.1.2.1 (by decide)
  have p2 := bd_v h.1.2.2.2.2.1.1 (by decide)
  have hq : cnt X 2 = vN (R 10 0) := by rw [h10]; rfl
  have q8 := bd_v h.1.1.2.2.2.2.2.2.2.2.2.2.1 (by decide)
  rw [← h10] at q8
  generalize hM : vN (R 5 0) = M at p5
  generalize hqq : vN (R 10 0) = q at hq q8
  have hcq : ∀ Y, FV X Y → cnt Y 2 = q := fun Y hY => by unfold cnt; rw [show szr 2 = 10 from rfl, hY.1 10 (by omega)]; exact hq
  have hXO : ∀ T1 X1, KQ q day R T1 → AP R T1 → X1 45 2 = -1 → XO T1 X1 := fun T1 X1 a c e => .inl ⟨e, by rw [a.1, c.2.2.1]; exact h.2.1.2.2.2.2.1⟩
  have L : ∀ (j p : Nat) (a mm : Int32) (T1 X1 : xSt), p + j = M → XB R X1 → AP R T1 → PV T1 → KQ q day R T1 → FV X X1 → X1 45 0 = nI day ∧ X1 45 1 = nI p ∧ X1 45 2 = -1 ∧ X1 25 0 = nI 0 ∧ X1 26 0 = nI 0 → kbK q j p a mm T1 = kbF day R → V l (yX0_keepOf.cls, cX0_keepOf, 6, (some .int), [(5, 73, 81, 0), (81, 83, 81, 0)], yX0_keepOf.name) (rmD 21 (rc X) (rs X), fF X, Q, xX0) 26 [some (.ref 0), some (.int (nI day)), some (.int what), some (.int a), some (.int mm), none] [.int (nI M), .int (nI p)] (wX X1) (rc X1) (rs X1) := by
    intro j
    induction j with
    | zero =>
      intro p a mm T1 X1 hij hB hA hP hK hV hO hR
      have o1 : od X1 (mwr X1 45 0 (-1)) := od_wr (od_rf X1) (by omega)
      have hpt : PT R (mwr X1 45 0 (-1)) := PT_xb h hB hV o1 ⟨mwr_s _ _ _ _, (mwr_q _ _ _ _ (by decide)).trans hO.2.2.1, hO.2.2.2.1, hO.2.2.2.2⟩
      refine V_icmp_geN (tgt := 73) dX0_keepOf_26 (by decide) (by omega) (by omega) (fun c26 => ?_) (fun c26 => ?_)
      · refine V_aload_n dX0_keepOf_73 rfl ?_
        refine V_iconst dX0_keepOf_74 li_m1 ?_
        refine Vx_put14 dX0_keepOf_75 q241 ?_
        refine V_goto (tgt := 91) dX0_keepOf_78 (by decide) ?_
        refine V_iload_n dX0_keepOf_91 rfl ?_
        refine V_if_ne (tgt := 99) dX0_keepOf_92 (by decide) (fun c92 => ?_) (fun c92 => ?_)
        · refine V_iload dX0_keepOf_99 rfl ?_
          exact V_ireturn dX0_keepOf_101 rfl (hQ _ _ ⟨_, rfl, ⟨by unfold keepF; rw [← hR, if_neg c92]; rfl, hpt, FV_tr hV (FV_od o1)⟩⟩)
        · refine V_iload_n dX0_keepOf_95 rfl ?_
          refine V_goto (tgt := 101) dX0_keepOf_96 (by decide) ?_
          exact V_ireturn dX0_keepOf_101 rfl (hQ _ _ ⟨_, rfl, ⟨by unfold keepF; rw [← hR, if_pos c92]; rfl, hpt, FV_tr hV (FV_od o1)⟩⟩)
      · exact absurd c26 (by omega)
    | succ j ih =>
      intro p a mm T1 X1 hij hB hA hP hK hV hO hR
      have hA2 : AP R (mwr T1 24 q (nI p)) := AP_tr hA (AP_wr (by omega))
      have hP2 : PV (mwr T1 24 q (nI p)) := PV_w24 (bd_n (by omega)) hP
      have hK2 : KQ q day R (mwr T1 24 q (nI p)) := KQ_24 hK
      have hX1 : XT (mwr T1 24 q (nI p)) X1 := XB_XT hB hA2 hP2 (XK_q (KD_FV h.2.1 hV) (hcq X1 hV) hK2 hday (by rw [mwr_s]; exact hO.2.1.symm) (by rw [hO.2.1]; exact bd_n (by omega)) hO.1 hO.2.2.2.1 hO.2.2.2.2) (hXO _ _ hK2 hA2 hO.2.2.1)
      refine V_icmp_geN (tgt := 73) dX0_keepOf_26 (by decide) (by omega) (by omega) (fun c26 => ?_) (fun c26 => ?_)
      · exact absurd c26 (by omega)
      · refine V_aload_n dX0_keepOf_29 rfl ?_
        refine Vz_vV (k' := 0) (n' := 0) (x_find l hX1) dX0_keepOf_30 (lw_V q789 q791 qs9 q95 q792) hv_X0_find (by decide) (wX_obj _) cl_X0 rfl rfl (Nat.le_of_ble_eq_true rfl) (fF_FV hV) (okl_c (ok_r (fF_ok (.inl (Nat.le_of_ble_eq_true rfl)))) (okl_c ok_i (okl_c ok_i (okl_c ok_i (okl_c ok_i (okl_n okl_0)))))) oks_0 ⟨Nat.le_refl _, Nat.le_refl _⟩ (fun X2 h2 => ?_)
        have hQ2 := RQ_of h2.1 h2.2.1
        have hV2 : FV X X2 := FV_tr hV (FV_FW h2.2.2)
        have hB2 : XB R X2 := XB_run h2.1 hA2
        have hO2 : X2 45 0 = nI day ∧ X2 45 1 = nI p ∧ X2 45 2 = -1 ∧ X2 25 0 = nI 0 ∧ X2 26 0 = nI 0 := by rw [h2.2.2.1 45 (by omega), h2.2.2.1 25 (by omega), h2.2.2.1 26 (by omega)]; exact hO
        obtain ⟨hl, -, -, -, -, -, -, n5, -, -, -, -, -⟩ := RD_x h2.1.1 h2.1.2.1
        rw [show vN (runsF (mwr T1 24 q (nI p)) 5 0) = M by rw [runsF_fr _ 5 (by omega), hA2.2.2.1, hM]] at n5
        have o1 : od X2 (mwr X2 45 1 (nI (p + 1))) := od_wr (od_rf X2) (by omega)
        have e0 := rc_0 (X := mwr X2 45 1 (nI (p + 1))) ⟨h2.1.2.1.1, h2.1.2.1.2⟩
        refine V_aload_n dX0_keepOf_33 rfl ?_
        refine V_bipush dX0_keepOf_34 lb_23 ?_
        refine Vq_v (x_fitsIn l hQ2 (show 23 < 24 by decide)) dX0_keepOf_36 (lw_V q893 q895 qs22 q95 q896) hv_X0_fitsIn (by decide) (wX_obj _) cl_X0 rfl rfl (Nat.le_of_ble_eq_true rfl) ?_
        refine V_iload dX0_keepOf_39 rfl ?_
        refine V_icmp_gt (tgt := 47) dX0_keepOf_41 (by decide) (fun c41 => ?_) (fun c41 => ?_)
        · refine V_aload_n dX0_keepOf_47 rfl ?_
          refine V_getf (i := 15) k_X0 dX0_keepOf_48 (by decide) q242 (wX_obj _) rfl ?_
          rw [hO2.2.1]
          refine V_istore_n dX0_keepOf_51 rfl (Nat.le_of_ble_eq_true rfl) (Nat.le_of_ble_eq_true rfl) ?_
          refine V_aload_n dX0_keepOf_52 rfl ?_
          refine V_bipush dX0_keepOf_53 lb_23 ?_
          refine Vq_v (x_fitsIn l hQ2 (show 23 < 24 by decide)) dX0_keepOf_55 (lw_V q893 q895 qs22 q95 q896) hv_X0_fitsIn (by decide) (wX_obj _) cl_X0 rfl rfl (Nat.le_of_ble_eq_true rfl) ?_
          refine V_istore dX0_keepOf_58 rfl (Nat.le_of_ble_eq_true rfl) (Nat.le_of_ble_eq_true rfl) ?_
          refine V_aload_n dX0_keepOf_60 rfl ?_
          refine V_dup dX0_keepOf_61 rfl ?_
          refine V_getf (i := 15) k_X0 dX0_keepOf_62 (by decide) q242 (wX_obj _) rfl ?_
          rw [hO2.2.1]
          refine V_iconst dX0_keepOf_65 li_1 ?_
          refine V_iaddN dX0_keepOf_66 ?_
          refine Vx_put15 dX0_keepOf_67 q242 ?_
          refine V_goto (tgt := 15) dX0_keepOf_70 (by decide) ?_
          refine V_aload_n dX0_keepOf_15 rfl ?_
          refine V_getf (i := 15) k_X0 dX0_keepOf_16 (by decide) q242 (wX_obj _) rfl ?_
          refine V_aload_n dX0_keepOf_19 rfl ?_
          refine V_getf (i := 2) k_X0 dX0_keepOf_20 (by decide) q229 (wX_obj _) rfl ?_
          refine Vq_u (x_manyf1 l (show mwr X2 45 1 (nI (p + 1)) 47 1 = nI 1 from h2.1.2.1.2) (LQ_of (X := X2) rfl rfl (hl 1 (by decide)))) dX0_keepOf_23 (lw_U q707 q708 q709 q662 q96 q663) rfl hs_X1_many (by decide) (.inl ⟨_, _, _, _, (wX_tx1 _), cl_X3, rfl⟩) rfl (Nat.le_of_ble_eq_true rfl) ?_
          rw [show mwr X2 45 1 (nI (p + 1)) 5 0 = nI M from n5]
          have z := ih (p + 1) _ _ (runsF (mwr T1 24 q (nI p))) (mwr X2 45 1 (nI (p + 1))) (by omega) (XB_od hB2 o1) (AP_tr hA2 (AP_fr (runsF_fr _))) (PV_fr (runsF_fr _) hP2) (KQ_fr hK2 (runsF_fr _)) (FV_tr hV2 (FV_od o1)) ⟨(mwr_q _ _ _ _ (by decide)).trans hO2.1, mwr_s _ _ _ _, (mwr_q _ _ _ _ (by decide)).trans hO2.2.2.1, hO2.2.2.2.1, hO2.2.2.2.2⟩ (by rw [← hR, kbK_s, if_neg (fun z => absurd c41 (Int32.not_lt.mpr z)), if_neg (fun z => absurd c41 (Int32.not_lt.mpr z))])
          rw [e0.1, e0.2] at z
          exact z
        · refine V_goto (tgt := 60) dX0_keepOf_44 (by decide) ?_
          refine V_aload_n dX0_keepOf_60 rfl ?_
          refine V_dup dX0_keepOf_61 rfl ?_
          refine V_getf (i := 15) k_X0 dX0_keepOf_62 (by decide) q242 (wX_obj _) rfl ?_
          rw [hO2.2.1]
          refine V_iconst dX0_keepOf_65 li_1 ?_
          refine V_iaddN dX0_keepOf_66 ?_
          refine Vx_put15 dX0_keepOf_67 q242 ?_
          refine V_goto (tgt := 15) dX0_keepOf_70 (by decide) ?_
          refine V_aload_n dX0_keepOf_15 rfl ?_
          refine V_getf (i := 15) k_X0 dX0_keepOf_16 (by decide) q242 (wX_obj _) rfl ?_
          refine V_aload_n dX0_keepOf_19 rfl ?_
          refine V_getf (i := 2) k_X0 dX0_keepOf_20 (by decide) q229 (wX_obj _) rfl ?_
          refine Vq_u (x_manyf1 l (show mwr X2 45 1 (nI (p + 1)) 47 1 = nI 1 from h2.1.2.1.2) (LQ_of (X := X2) rfl rfl (hl 1 (by decide)))) dX0_keepOf_23 (lw_U q707 q708 q709 q662 q96 q663) rfl hs_X1_many (by decide) (.inl ⟨_, _, _, _, (wX_tx1 _), cl_X3, rfl⟩) rfl (Nat.le_of_ble_eq_true rfl) ?_
          rw [show mwr X2 45 1 (nI (p + 1)) 5 0 = nI M from n5]
          have z := ih (p + 1) _ _ (runsF (mwr T1 24 q (nI p))) (mwr X2 45 1 (nI (p + 1))) (by omega) (XB_od hB2 o1) (AP_tr hA2 (AP_fr (runsF_fr _))) (PV_fr (runsF_fr _) hP2) (KQ_fr hK2 (runsF_fr _)) (FV_tr hV2 (FV_od o1)) ⟨(mwr_q _ _ _ _ (by decide)).trans hO2.1, mwr_s _ _ _ _, (mwr_q _ _ _ _ (by decide)).trans hO2.2.2.1, hO2.2.2.2.1, hO2.2.2.2.2⟩ (by rw [← hR, kbK_s, if_pos (Int32.not_lt.mp c41), if_pos (Int32.not_lt.mp c41)])
          rw [e0.1, e0.2] at z
          exact z
  have hK0 : KQ q day R (mwr (mwr R 22 0 (nI (q + 1))) 23 q (nI day)) := ⟨rfl, rfl, rfl, rfl, mwr_s _ _ _ _, fun i hi => ⟨mwr_q _ _ _ _ (by omega), rfl⟩⟩
  have hA0 : AP R (mwr (mwr R 22 0 (nI (q + 1))) 23 q (nI day)) := AP_tr (AP_wr (by omega)) (AP_wr (by omega))
  have hP0 : PV (mwr (mwr R 22 0 (nI (q + 1))) 23 q (nI day)) := PV_wr (by omega) (PV_w22 (bd_n (by omega)) h.1.2.2.2.2.1)
  have o1 : od X (mwr (mwr X 45 0 (nI day)) 45 1 (nI 0)) := od_wr (od_wr (od_rf X) (by omega)) (by omega)
  have hX1 : XT (mwr (mwr (mwr R 22 0 (nI (q + 1))) 23 q (nI day)) 24 q (nI 0)) (mwr (mwr X 45 0 (nI day)) 45 1 (nI 0)) := XB_XT (XB_od (XB_0 h.1) o1) (AP_tr hA0 (AP_wr (by omega))) (PV_w24 (bd_n (by omega)) hP0) (XK_q (KD_od h.2.1 o1) (hcq _ (FV_od o1)) (KQ_24 hK0) hday (by rw [mwr_s, mwr_s]) (by rw [mwr_s]; exact bd_n (by omega)) (by rw [mwr_q _ _ _ _ (by decide), mwr_s]) h.2.2.2.2.1 h.2.2.2.2.2) (hXO _ _ (KQ_24 hK0) (AP_tr hA0 (AP_wr (by omega))) h.2.2.2.1)
  refine V_iconst dX0_keepOf_0 li_m1 ?_
  refine V_istore_n dX0_keepOf_1 rfl (Nat.le_of_ble_eq_true rfl) (Nat.le_of_ble_eq_true rfl) ?_
  refine V_iconst dX0_keepOf_2 li_m1 ?_
  refine V_istore dX0_keepOf_3 rfl (Nat.le_of_ble_eq_true rfl) (Nat.le_of_ble_eq_true rfl) ?_
  refine V_aload_n dX0_keepOf_5 rfl ?_
  refine V_iload_n dX0_keepOf_6 rfl ?_
  refine Vx_put14 dX0_keepOf_7 q241 ?_
  refine V_aload_n dX0_keepOf_10 rfl ?_
  refine V_iconst dX0_keepOf_11 li_0 ?_
  refine Vx_put15 dX0_keepOf_12 q242 ?_
  refine V_aload_n dX0_keepOf_15 rfl ?_
  refine V_getf (i := 15) k_X0 dX0_keepOf_16 (by decide) q242 (wX_obj _) rfl ?_
  rw [mwr_s]
  refine V_aload_n dX0_keepOf_19 rfl ?_
  refine V_getf (i := 2) k_X0 dX0_keepOf_20 (by decide) q229 (wX_obj _) rfl ?_
  refine Vz_uI (k' := rct 0 X) (n' := rst 0 X) (x_manyT1 l hX1) dX0_keepOf_23 (lw_U q707 q708 q709 q662 q96 q663) rfl hs_X1_many (by decide) (.inl ⟨_, _, _, _, (wX_tx1 _), cl_X3, rfl⟩) rfl (Nat.le_of_ble_eq_true rfl) (gF1_of rfl) (okl_c (ok_r (gF_ok (by decide))) (okl_c ok_i (okl_c ok_i (okl_c ok_i (okl_c ok_i (okl_n okl_0)))))) (oks_c ok_i oks_0) ⟨Nat.le_of_eq (Nat.add_comm _ _), Nat.le_of_eq (Nat.add_comm _ _)⟩ (fun x2 X2 h2 => ?_)
  obtain ⟨rfl, h3, h4, h5⟩ := h2
  have e0 := rc_1 (X := X) h4 (h5.2.1 47 0 (by decide) (by decide))
  have hV2 : FV X X2 := FV_tr (FV_od o1) (FV_FW (FW_1 h5 h4))
  have h45 : ∀ r, r = 25 ∨ r = 26 ∨ r = 45 → X2 r = (mwr (mwr X 45 0 (nI day)) 45 1 (nI 0)) r := fun r hr => h5.1 r (by omega) (by omega) (by omega) (by omega) (by omega) (by omega) (by omega) (by omega) (by omega) (by omega) (by omega)
  have z := L M 0 (-1) (-1) (mwr (mwr R 22 0 (nI (q + 1))) 23 q (nI day)) X2 (Nat.zero_add _) (XB_of h3 (AP_tr hA0 (AP_wr (by omega)))) hA0 hP0 hK0 hV2 (by rw [h45 25 (by omega), h45 26 (by omega), h45 45 (by omega)]; exact ⟨by rw [mwr_q _ _ _ _ (by decide), mwr_s], mwr_s _ _ _ _, h.2.2.2.1, h.2.2.2.2.1, h.2.2.2.2.2⟩) (by unfold kbF; rw [hqq, hM])
  rw [e0.1, e0.2] at z
  show V l _ _ 26 _ [.int (R 5 0), .int (nI 0)] _ _ _
  rw [p5.1]
  exact z
