/-! PromiseTailor's side: plans, swear and keep -/
set_option maxRecDepth 100000
/-- some plan over what was told ties -/
def XB (R X : xSt) : Prop := ∃ S Y, XT S Y ∧ AP R S ∧ od Y X
theorem XB_0 {R X : xSt} (h : XT R X) : XB R X := ⟨R, X, h, AP_rf R, od_rf X⟩
theorem XB_of {R S X : xSt} (h : XT S X) (a : AP R S) : XB R X := ⟨S, X, h, a, od_rf X⟩
theorem XB_od {R X Y : xSt} (h : XB R X) (g : od X Y) : XB R Y := by
  obtain ⟨S, Z, a, b, c⟩ := h
  exact ⟨S, Z, a, b, od_tr c g⟩
theorem XB_run {R T X : xSt} (h : RD (runsF T) X) (ha : AP R T) : XB R X := ⟨runsF T, X, h.1, AP_tr ha (AP_fr (runsF_fr T)), od_rf X⟩
theorem XB_XT {R T X : xSt} (h : XB R X) (ha : AP R T) (hP : PV T) (hK : XK T X) (hO : XO T X) : XT T X := by
  obtain ⟨S, Z, a, b, c⟩ := h
  exact XT_ap a (AP_tr (AP_sy b) ha) c hP hK hO
theorem PT_xb {R X Y Z : xSt} (h : PT R X) (hB : XB R Y) (hf : FV X Y) (ho : od Y Z) (hd : df Z) : PT R Z := by
  obtain ⟨S, W, a, b, c⟩ := hB
  exact PT_back h a b (FV_tr hf (FV_od (od_sy c))) (od_tr c ho) hd
theorem XK_g {R T X : xSt} (h : KD R X) (hT : ∀ r, 21 < r → r < 27 → T r = R r) (d0 : X 45 0 = -1) (d1 : X 25 0 = nI 0) (d2 : X 26 0 = nI 0) : XK T X := by
  refine ⟨fun i hi => ?_, .inl ⟨d0, ?_⟩, ?_, ?_, h.2.2.2.2.2⟩
  · rw [hT 23 (by decide) (by decide), hT 24 (by decide) (by decide)]; exact h.1 i hi
  · rw [hT 22 (by decide) (by decide)]; exact h.2.1
  · rw [hT 25 (by decide) (by decide), d1]; exact h.2.2.1.symm
  · rw [hT 26 (by decide) (by decide), d2]; exact h.2.2.2.1.symm
theorem bd_n {i n : Nat} (h : i ≤ n) : bd (nI i) n := ⟨i, h, rfl⟩
theorem nI_nm : ∀ v, v < 256 → ¬ nI v = -1 := by decide +kernel
theorem swK_f (m day k v : Nat) (S : xSt) (hv : v < 10) : ∀ j, swK m day k j (v + 1) (nI v) S = (nI v, S)
  | 0 => rfl
  | j + 1 => by rw [swK_s, if_neg (nI_nm v (by omega))]
/-- one promise more -/
def SW (m k : Nat) (T : xSt) : Prop := T 21 0 = nI (m + 1) ∧ T 6 m = nI k ∧ T 8 m = nI 0 ∧ T 9 m = -1
theorem SW_c {m k : Nat} {T U : xSt} (h : SW m k T) (g : ∀ r, r = 21 ∨ r = 6 ∨ r = 8 ∨ r = 9 → U r = T r) : SW m k U := by
  unfold SW
  rw [g 21 (by omega), g 6 (by omega), g 8 (by omega), g 9 (by omega)]
  exact h

set_option maxHeartbeats 4000000 in
theorem x_swearOf (l : Launch) {R X : xSt} (h : PT R X) {k day : Nat} (hk : k < vN (R 2 0)) (hday : day < 24) : Cx l yX0_swearOf (wsW_ yX0_swearOf cX0_swearOf 5 (some .int) [(0, 37, 66, 0), (44, 59, 66, 0), (66, 68, 66, 0)]) 21 [.ref 0, .int (nI k), .int (nI day)] X (fun r X' => ∃ x, r = some (.int x) ∧ x = (swearF k day R).1 ∧ PT R X' ∧ FV X X') := by
  refine Cz_startW (ls := [some (.ref 0), some (.int (nI k)), some (.int (nI day)), none, none]) (by decide) rfl (Nat.le_of_ble_eq_true rfl) fF_lo ?_
  intro Q hQ
  have p5 := bd_v h.1.2.2.2.2.1.2.1 (by decide)
  have p2 := bd_v h.1.2.2.2.2.1.1 (by decide)
  generalize hm : vN (R 5 0) = m at p5
  have L : ∀ (j v : Nat) (T1 X1 : xSt), v + j = 10 → XB R X1 → AP R T1 → PV T1 → (∀ r, 21 < r → r < 27 → T1 r = R r) → SW m k T1 → FV X X1 → X1 45 0 = -1 ∧ X1 45 2 = nI k ∧ X1 45 3 = nI v ∧ X1 25 0 = nI 0 ∧ X1 26 0 = nI 0 → swK m day k j v (-1) T1 = swearF k day R → V l (yX0_swearOf.cls, cX0_swearOf, 5, (some .int), [(0, 37, 66, 0), (44, 59, 66, 0), (66, 68, 66, 0)], yX0_swearOf.name) (rmD 21 (rc X) (rs X), fF X, Q, xX0) 10 [some (.ref 0), some (.int (nI k)), some (.int (nI day)), none, none] [] (wX X1) (rc X1) (rs X1) := by
    intro j
    induction j with
    | zero =>
      intro v T1 X1 hij hB hA hP hT hS hV hO hR
      have o1 : od X1 (mwr X1 45 2 (-1)) := od_wr (od_rf X1) (by omega)
      refine V_aload_n dX0_swearOf_10 rfl ?_
      refine V_getf (i := 17) k_X0 dX0_swearOf_11 (by decide) q244 (wX_obj _) rfl ?_
      rw [hO.2.2.1]
      refine V_bipush dX0_swearOf_14 lb_9 ?_
      refine V_icmp_gtN (tgt := 57) dX0_swearOf_16 (by decide) (by omega) (by omega) (fun c16 => ?_) (fun c16 => ?_)
      · refine V_iconst dX0_swearOf_57 li_m1 ?_
        refine V_istore_n dX0_swearOf_58 rfl (Nat.le_of_ble_eq_true rfl) (Nat.le_of_ble_eq_true rfl) ?_
        refine V_aload_n dX0_swearOf_59 rfl ?_
        refine V_iconst dX0_swearOf_60 li_m1 ?_
        refine Vx_put16 dX0_swearOf_61 q243 ?_
        refine V_iload_n dX0_swearOf_64 rfl ?_
        exact V_ireturn dX0_swearOf_65 rfl (hQ _ _ ⟨_, rfl, ⟨by rw [← hR]; rfl, PT_xb h hB hV o1 ⟨(mwr_q _ _ _ _ (by decide)).trans hO.1, mwr_s _ _ _ _, hO.2.2.2.1, hO.2.2.2.2⟩, FV_tr hV (FV_od o1)⟩⟩)
      · exact absurd c16 (by omega)
    | succ j ih =>
      intro v T1 X1 hij hB hA hP hT hS hV hO hR
      have hA2 : AP R (mwr T1 7 m (nI v)) := AP_tr hA (AP_wm (by omega) (by rw [hA.2.2.1, hm]; exact Nat.le_refl _))
      have hP2 : PV (mwr T1 7 m (nI v)) := PV_wr (by omega) hP
      have hT2 : ∀ r, 21 < r → r < 27 → mwr T1 7 m (nI v) r = R r := fun r a b => (mwr_R _ _ _ (by omega)).trans (hT r a b)
      have hS2 : SW m k (mwr T1 7 m (nI v)) := SW_c hS (fun r hr => mwr_R _ _ _ (by omega))
      have hX1 : XT (mwr T1 7 m (nI v)) X1 := XB_XT hB hA2 hP2 (XK_g (KD_FV h.2.1 hV) hT2 hO.1 hO.2.2.2.1 hO.2.2.2.2) (.inr ⟨k, by rw [hA2.2.1]; exact hk, hO.2.1, by rw [hA2.2.2.1, hm]; exact hS2.1, by rw [hA2.2.2.1, hm]; exact hS2.2.1, by rw [hA2.2.2.1, hm, mwr_s]; exact hO.2.2.1.symm, by rw [hA2.2.2.1, hm]; exact hS2.2.2.1, by rw [hA2.2.2.1, hm]; exact hS2.2.2.2⟩)
      refine V_aload_n dX0_swearOf_10 rfl ?_
      refine V_getf (i := 17) k_X0 dX0_swearOf_11 (by decide) q244 (wX_obj _) rfl ?_
      rw [hO.2.2.1]
      refine V_bipush dX0_swearOf_14 lb_9 ?_
      refine V_icmp_gtN (tgt := 57) dX0_swearOf_16 (by decide) (by omega) (by omega) (fun c16 => ?_) (fun c16 => ?_)
      · exact absurd c16 (by omega)
      · refine V_aload_n dX0_swearOf_19 rfl ?_
        refine Vz_vV (k' := 0) (n' := 0) (x_find l hX1) dX0_swearOf_20 (lw_V q789 q791 qs9 q95 q792) hv_X0_find (by decide) (wX_obj _) cl_X0 rfl rfl (Nat.le_of_ble_eq_true rfl) (fF_FV hV) (okl_c (ok_r (fF_ok (.inl (Nat.le_of_ble_eq_true rfl)))) (okl_c ok_i (okl_c ok_i (okl_n (okl_n okl_0))))) oks_0 ⟨Nat.le_refl _, Nat.le_refl _⟩ (fun X2 h2 => ?_)
        obtain ⟨-, h2⟩ := (show True ∧ _ from ⟨trivial, h2⟩)
        have hQ2 := RQ_of h2.1 h2.2.1
        have hV2 : FV X X2 := FV_tr hV (FV_FW h2.2.2)
        have hB2 : XB R X2 := XB_run h2.1 hA2
        have hO2 : X2 45 0 = -1 ∧ X2 45 2 = nI k ∧ X2 45 3 = nI v ∧ X2 25 0 = nI 0 ∧ X2 26 0 = nI 0 := by rw [h2.2.2.1 45 (by omega), h2.2.2.1 25 (by omega), h2.2.2.1 26 (by omega)]; exact hO
        have hk2 : k < vN (runsF (mwr T1 7 m (nI v)) 2 0) := by rw [runsF_fr _ 2 (by omega), hA2.2.1]; exact hk
        refine V_aload_n dX0_swearOf_23 rfl ?_
        refine V_iload_n dX0_swearOf_24 rfl ?_
        refine V_iload_n dX0_swearOf_25 rfl ?_
        refine Vq_v (x_isFit l hQ2 hday hk2) dX0_swearOf_26 (lw_V q845 q847 qs16 q95 q848) hv_X0_isFit (by decide) (wX_obj _) cl_X0 rfl rfl (Nat.le_of_ble_eq_true rfl) ?_
        refine V_if_eqB (tgt := 44) dX0_swearOf_29 (by decide) (fun c29 => ?_) (fun c29 => ?_)
        · have o1 : od X2 (mwr X2 45 3 (nI (v + 1))) := od_wr (od_rf X2) (by omega)
          have e0 := rc_0 (X := mwr X2 45 3 (nI (v + 1))) ⟨(congrFun (mwr_R _ _ _ (by decide)) 0).trans h2.1.2.1.1, (congrFun (mwr_R _ _ _ (by decide)) 1).trans h2.1.2.1.2⟩
          refine V_aload_n dX0_swearOf_44 rfl ?_
          refine V_dup dX0_swearOf_45 rfl ?_
          refine V_getf (i := 17) k_X0 dX0_swearOf_46 (by decide) q244 (wX_obj _) rfl ?_
          rw [hO2.2.2.1]
          refine V_iconst dX0_swearOf_49 li_1 ?_
          refine V_iaddN dX0_swearOf_50 ?_
          refine Vx_put17 dX0_swearOf_51 q244 ?_
          refine V_goto (tgt := 10) dX0_swearOf_54 (by decide) ?_
          have z := ih (v + 1) (runsF (mwr T1 7 m (nI v))) (mwr X2 45 3 (nI (v + 1))) (by omega) (XB_od hB2 o1) (AP_tr hA2 (AP_fr (runsF_fr _))) (PV_fr (runsF_fr _) hP2) (fun r a b => (runsF_fr _ r (by omega)).trans (hT2 r a b)) (SW_c hS2 (fun r hr => runsF_fr _ r (by omega))) (FV_tr hV2 (FV_od o1)) ⟨(mwr_q _ _ _ _ (by decide)).trans hO2.1, (mwr_q _ _ _ _ (by decide)).trans hO2.2.1, mwr_s _ _ _ _, hO2.2.2.2.1, hO2.2.2.2.2⟩ (by rw [← hR, swK_s, if_pos rfl, if_neg c29])
          rw [e0.1, e0.2] at z
          exact z
        · have o1 : od X2 (mwr X2 45 2 (-1)) := od_wr (od_rf X2) (by omega)
          refine V_aload_n dX0_swearOf_32 rfl ?_
          refine V_getf (i := 17) k_X0 dX0_swearOf_33 (by decide) q244 (wX_obj _) rfl ?_
          rw [hO2.2.2.1]
          refine V_istore_n dX0_swearOf_36 rfl (Nat.le_of_ble_eq_true rfl) (Nat.le_of_ble_eq_true rfl) ?_
          refine V_aload_n dX0_swearOf_37 rfl ?_
          refine V_iconst dX0_swearOf_38 li_m1 ?_
          refine Vx_put16 dX0_swearOf_39 q243 ?_
          refine V_iload_n dX0_swearOf_42 rfl ?_
          exact V_ireturn dX0_swearOf_43 rfl (hQ _ _ ⟨_, rfl, ⟨by rw [← hR, swK_s, if_pos rfl, if_pos c29, swK_f _ _ _ _ _ (by omega)], PT_xb h hB2 hV2 o1 ⟨(mwr_q _ _ _ _ (by decide)).trans hO2.1, mwr_s _ _ _ _, hO2.2.2.2.1, hO2.2.2.2.2⟩, FV_tr hV2 (FV_od o1)⟩⟩)
  refine V_aload_n dX0_swearOf_0 rfl ?_
  refine V_iload_n dX0_swearOf_1 rfl ?_
  refine Vx_put16 dX0_swearOf_2 q243 ?_
  refine V_aload_n dX0_swearOf_5 rfl ?_
  refine V_iconst dX0_swearOf_6 li_1 ?_
  refine Vx_put17 dX0_swearOf_7 q244 ?_
  have o1 : od X (mwr (mwr X 45 2 (nI k)) 45 3 (nI 1)) := od_wr (od_wr (od_rf X) (by omega)) (by omega)
  have z := L 9 1 (swS m k R) (mwr (mwr X 45 2 (nI k)) 45 3 (nI 1)) (by decide) (XB_od (XB_0 h.1) o1) (AP_tr (AP_tr (AP_tr (AP_wr (by omega)) (AP_wm (by omega) (by rw [mwr_r _ _ _ _ (by decide), hm]; exact Nat.le_refl _))) (AP_wm (by omega) (by rw [mwr_r _ _ _ _ (by decide), mwr_r _ _ _ _ (by decide), hm]; exact Nat.le_refl _))) (AP_wm (by omega) (by rw [mwr_r _ _ _ _ (by decide), mwr_r _ _ _ _ (by decide), mwr_r _ _ _ _ (by decide), hm]; exact Nat.le_refl _))) (PV_wr (by omega) (PV_wr (by omega) (PV_w6 (bd_n (by omega)) (PV_w21 (bd_n (by omega)) h.1.2.2.2.2.1)))) (fun r a b => (mwr_R _ _ _ (by omega)).trans ((mwr_R _ _ _ (by omega)).trans ((mwr_R _ _ _ (by omega)).trans (mwr_R _ _ _ (by omega))))) ⟨rfl, by unfold swS; rw [mwr_r _ _ _ _ (by decide), mwr_r _ _ _ _ (by decide), mwr_s], by unfold swS; rw [mwr_r _ _ _ _ (by decide), mwr_s], mwr_s _ _ _ _⟩ (FV_od o1) ⟨h.2.2.1, by rw [mwr_q _ _ _ _ (by decide), mwr_s], mwr_s _ _ _ _, h.2.2.2.2.1, h.2.2.2.2.2⟩ (by unfold swearF; rw [hm])
  exact z
