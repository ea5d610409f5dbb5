/-! PromiseTailor's side: plans, due -/
set_option maxRecDepth 100000
theorem fF_ok1 {X : xSt} {b : Nat} (h : X 47 1 = nI 1) (hb : 1152 ≤ b ∧ b < 1216) : ¬ fF X b := fun z => by
  unfold fF at z
  rcases z with ⟨-, z⟩ | ⟨z, -⟩ | z
  · omega
  · exact z h
  · omega
theorem fF_ok0 {X : xSt} {b : Nat} (h : X 47 0 = nI 1) (hb : 1088 ≤ b ∧ b < 1152) : ¬ fF X b := fun z => by
  unfold fF at z
  rcases z with ⟨z, -⟩ | ⟨-, z⟩ | z
  · exact z h
  · omega
  · omega
theorem mwr_mwr (S : xSt) (j i : Nat) (u v : Int32) : mwr (mwr S j i u) j i v = mwr S j i v := by
  funext r q
  by_cases e : r = j ∧ q = i
  · rw [e.1, e.2, mwr_s, mwr_s]
  · by_cases e1 : r = j
    · have e2 : q ≠ i := fun z => e ⟨e1, z⟩
      rw [mwr_q _ _ _ _ e2, mwr_q _ _ _ _ e2, mwr_q _ _ _ _ e2]
    · rw [mwr_r _ _ _ _ e1, mwr_r _ _ _ _ e1, mwr_r _ _ _ _ e1]
theorem mwr_run {T : xSt} {j i : Nat} {u v : Int32} {R : xSt} (hj : j < 27) (h : AP R (mwr T j i v)) : AP R (mwr (runsF (mwr T j i u)) j i v) := by
  refine AP_tr h ?_
  have e : ∀ r, r < 27 ∨ 32 < r → mwr (runsF (mwr T j i u)) j i v r = mwr T j i v r := by
    intro r hr
    funext q
    by_cases a : r = j ∧ q = i
    · rw [a.1, a.2, mwr_s, mwr_s]
    · by_cases e1 : r = j
      · have e2 : q ≠ i := fun z => a ⟨e1, z⟩
        rw [mwr_q _ _ _ _ e2, mwr_q _ _ _ _ e2, runsF_fr _ r hr, mwr_q _ _ _ _ e2]
      · rw [mwr_r _ _ _ _ e1, mwr_r _ _ _ _ e1, runsF_fr _ r hr, mwr_r _ _ _ _ e1]
  exact AP_fr e
theorem nI_264 : ∀ n, n ≤ 264 → nI n < nI 999 ∧ nI n < 9999 ∧ ¬ nI 999 ≤ nI n ∧ ¬ 9999 ≤ nI n := by decide +kernel

set_option maxHeartbeats 4000000 in
theorem x_dueOf (l : Launch) {R X : xSt} (h : PT R X) (hf1 : X 47 1 = nI 1) {p : Nat} {what : Int32} (hp : p < vN (R 5 0)) : Cx l yX0_dueOf (wsW_ yX0_dueOf cX0_dueOf 8 (some .int) [(29, 84, 93, 0), (93, 95, 93, 0)]) 21 [.ref 0, .int (nI p), .int what] X (fun r X' => ∃ x, r = some (.int x) ∧ x = (dueF p what R).1 ∧ PT R X' ∧ FV X X') := by
  refine Cz_startW (ls := [some (.ref 0), some (.int (nI p)), some (.int what), none, none, none, none, none]) (by decide) rfl (Nat.le_of_ble_eq_true rfl) fF_lo ?_
  intro Q hQ
  have p5 := bd_v h.1.2.2.2.2.1.2.1 (by decide)
  have hl := h.1.1.2.1
  have s0 := (h.1.2.2.2.2.2.2.2.1.resolve_right (fun z => by rw [hf1] at z; exact absurd z.1 (by decide +kernel))).2
  have c0 : cnt X 1 = vN (R 5 0) := by unfold cnt; rw [show szr 1 = 5 from rfl, s0.1]
  have d0 : p < std X 1 := by rw [h.1.1.2.2.2.2.2.2.2.1 1 (by decide) (by decide), c0]; exact hp
  have y0 := (s0.2 p hp).2.2.2
  have L : ∀ (j d : Nat) (a m mm : Int32) (T1 X1 : xSt), d + j = 24 → XT (mwr T1 9 p (nI d)) X1 → X1 9 p = nI d → X1 47 1 = nI 1 → AP R (mwr T1 9 p (R 9 p)) → PV T1 → FV X X1 → df X1 → p < std X1 1 → (m = mm ∨ (d = 0 ∧ m = nI 999 ∧ mm = 9999)) → duK p j d a m T1 = duF p R → V l (yX0_dueOf.cls, cX0_dueOf, 8, (some .int), [(29, 84, 93, 0), (93, 95, 93, 0)], yX0_dueOf.name) (rmD 21 (rc X) (rs X), fF X, Q, xX0) 34 [some (.ref 0), some (.int (nI p)), some (.int what), some (.ref (1152 + p)), some (.int (R 9 p)), some (.int a), some (.int mm), none] [] (wX X1) (rc X1) (rs X1) := by
    intro j
    induction j with
    | zero =>
      intro d a m mm T1 X1 hij hX h9 hf hA hP hV hD hs hm hR
      have hm : m = mm := hm.resolve_right (fun z => by omega)
      subst hm
      have hR : (a, m, T1) = duF p R := hR
      have hXb := XT_9 (v := R 9 p) hX hf (by rw [mwr_r _ _ _ _ (by decide), show T1 5 0 = R 5 0 from hA.2.2.1]; exact hp)
      rw [mwr_mwr] at hXb
      have hV9 := FV_wr (j := 9) (i := p) (v := R 9 p) hV (by omega)
      have hpt : PT R (mwr X1 9 p (R 9 p)) := PT_back h hXb hA hV9 (od_rf _) hD
      refine V_aload_n dX0_dueOf_34 rfl ?_
      refine V_getfN (i := 3) k_X7 dX0_dueOf_35 (by decide) (nw q551 rfl) (wX_pro _ (d := p) (by omega) hs) rfl ?_
      rw [h9]
      refine V_bipush dX0_dueOf_38 lb_24 ?_
      refine V_icmp_geN (tgt := 84) dX0_dueOf_40 (by decide) (by omega) (by omega) (fun c40 => ?_) (fun c40 => ?_)
      · refine V_aload_n dX0_dueOf_84 rfl ?_
        refine V_iload dX0_dueOf_85 rfl ?_
        refine Vx_due dX0_dueOf_87 (nw q551 rfl) (by omega) hs ?_
        refine V_goto (tgt := 104) dX0_dueOf_90 (by decide) ?_
        refine V_iload_n dX0_dueOf_104 rfl ?_
        refine V_if_ne (tgt := 113) dX0_dueOf_105 (by decide) (fun c105 => ?_) (fun c105 => ?_)
        · refine V_iload dX0_dueOf_113 rfl ?_
          exact V_ireturn dX0_dueOf_115 rfl (hQ _ _ ⟨_, rfl, ⟨by unfold dueF; rw [← hR, if_neg c105], hpt, hV9⟩⟩)
        · refine V_iload dX0_dueOf_108 rfl ?_
          refine V_goto (tgt := 115) dX0_dueOf_110 (by decide) ?_
          exact V_ireturn dX0_dueOf_115 rfl (hQ _ _ ⟨_, rfl, ⟨by unfold dueF; rw [← hR, if_pos c105], hpt, hV9⟩⟩)
      · exact absurd c40 (by omega)
    | succ j ih =>
      intro d a m mm T1 X1 hij hX h9 hf hA hP hV hD hs hm hR
      have hP2 : PV (mwr T1 9 p (nI d)) := PV_wr (by omega) hP
      obtain ⟨t, ht, ht2⟩ := tears_n hP2
      have hlt := nI_264 t ht
      refine V_aload_n dX0_dueOf_34 rfl ?_
      refine V_getfN (i := 3) k_X7 dX0_dueOf_35 (by decide) (nw q551 rfl) (wX_pro _ (d := p) (by omega) hs) rfl ?_
      rw [h9]
      refine V_bipush dX0_dueOf_38 lb_24 ?_
      refine V_icmp_geN (tgt := 84) dX0_dueOf_40 (by decide) (by omega) (by omega) (fun c40 => ?_) (fun c40 => ?_)
      · exact absurd c40 (by omega)
      · refine V_aload_n dX0_dueOf_43 rfl ?_
        refine Vz_vV (k' := 0) (n' := 0) (x_find l hX) dX0_dueOf_44 (lw_V q789 q791 qs9 q95 q792) hv_X0_find (by decide) (wX_obj _) cl_X0 rfl rfl (Nat.le_of_ble_eq_true rfl) (fF_FV hV) (okl_c (ok_r (fF_ok (.inl (Nat.le_of_ble_eq_true rfl)))) (okl_c ok_i (okl_c ok_i (okl_c (ok_r (fF_ok1 hf (by omega))) (okl_c ok_i (okl_c ok_i (okl_c ok_i (okl_n okl_0)))))))) oks_0 ⟨Nat.le_refl _, Nat.le_refl _⟩ (fun X2 h2 => ?_)
        have hQ2 := RQ_of h2.1 h2.2.1
        have hV2 : FV X X2 := FV_tr hV (FV_FW h2.2.2)
        have h9b : X2 9 p = nI d := (congrFun (h2.2.2.2.2.2.1 hf 9 (by decide) (by decide)) p).trans h9
        have hD2 : df (mwr X2 9 p (nI (d + 1))) := by unfold df; rw [mwr_R _ _ _ (show 45 ≠ 9 by decide), mwr_R _ _ _ (show 25 ≠ 9 by decide), mwr_R _ _ _ (show 26 ≠ 9 by decide), h2.2.2.1 45 (by omega), h2.2.2.1 25 (by omega), h2.2.2.1 26 (by omega)]; exact hD
        have e5 : runsF (mwr T1 9 p (nI d)) 5 0 = R 5 0 := (congrFun (runsF_fr _ 5 (by omega)) 0).trans ((mwr_r _ _ _ _ (by decide)).trans hA.2.2.1)
        have hXn : XT (mwr (runsF (mwr T1 9 p (nI d))) 9 p (nI (d + 1))) (mwr X2 9 p (nI (d + 1))) := XT_9 h2.1.1 h2.1.2.1.2 (by rw [e5]; exact hp)
        obtain ⟨-, -, -, -, d1, -⟩ := RD_x h2.1.1 h2.1.2.1
        have hs2 : p < std X2 1 := by rw [d1, e5]; exact hp
        have e0 := rc_0 (X := mwr X2 9 p (nI (d + 1))) ⟨h2.1.2.1.1, h2.1.2.1.2⟩
        refine V_aload_n dX0_dueOf_47 rfl ?_
        refine Vq_v (x_allSplits l hQ2) dX0_dueOf_48 (lw_V q881 q883 qs20 q95 q884) hv_X0_allSplits (by decide) (wX_obj _) cl_X0 rfl rfl (Nat.le_of_ble_eq_true rfl) ?_
        refine V_iload dX0_dueOf_51 rfl ?_
        refine V_icmp_lt (tgt := 59) dX0_dueOf_53 (by decide) (fun c53 => ?_) (fun c53 => ?_)
        · have hc : ¬ m ≤ tearsF (runsF (mwr T1 9 p (nI d))) := hm.elim (fun e => by rw [e]; exact Int32.not_le.mpr c53) (fun e => by rw [e.2.1, ht2]; exact hlt.2.2.1)
          refine V_aload_n dX0_dueOf_59 rfl ?_
          refine V_getfN (i := 3) k_X7 dX0_dueOf_60 (by decide) (nw q551 rfl) (wX_pro _ (d := p) (by omega) hs2) rfl ?_
          rw [h9b]
          refine V_istore dX0_dueOf_63 rfl (Nat.le_of_ble_eq_true rfl) (Nat.le_of_ble_eq_true rfl) ?_
          refine V_aload_n dX0_dueOf_65 rfl ?_
          refine Vq_v (x_allSplits l hQ2) dX0_dueOf_66 (lw_V q881 q883 qs20 q95 q884) hv_X0_allSplits (by decide) (wX_obj _) cl_X0 rfl rfl (Nat.le_of_ble_eq_true rfl) ?_
          refine V_istore dX0_dueOf_69 rfl (Nat.le_of_ble_eq_true rfl) (Nat.le_of_ble_eq_true rfl) ?_
          refine V_aload_n dX0_dueOf_71 rfl ?_
          refine V_dup dX0_dueOf_72 rfl ?_
          refine V_getfN (i := 3) k_X7 dX0_dueOf_73 (by decide) (nw q551 rfl) (wX_pro _ (d := p) (by omega) hs2) rfl ?_
          rw [h9b]
          refine V_iconst dX0_dueOf_76 li_1 ?_
          refine V_iaddN dX0_dueOf_77 ?_
          refine Vx_due dX0_dueOf_78 (nw q551 rfl) (by omega) hs2 ?_
          refine V_goto (tgt := 34) dX0_dueOf_81 (by decide) ?_
          have z := ih (d + 1) _ (tearsF (runsF (mwr T1 9 p (nI d)))) (tearsF (runsF (mwr T1 9 p (nI d)))) (runsF (mwr T1 9 p (nI d))) (mwr X2 9 p (nI (d + 1))) (by omega) hXn (mwr_s _ _ _ _) h2.1.2.1.2 (mwr_run (by decide) hA) (PV_fr (runsF_fr _) hP2) (FV_wr hV2 (by omega)) hD2 hs2 (.inl rfl) (by rw [← hR, duK_s, if_neg hc, if_neg hc])
          rw [e0.1, e0.2] at z
          exact z
        · have hc2 : m = mm ∧ m ≤ tearsF (runsF (mwr T1 9 p (nI d))) := hm.elim (fun e => ⟨e, by rw [e]; exact Int32.not_lt.mp c53⟩) (fun e => absurd (by rw [e.2.2, ht2]; exact hlt.2.1) c53)
          have hc := hc2.2
          refine V_goto (tgt := 71) dX0_dueOf_56 (by decide) ?_
          refine V_aload_n dX0_dueOf_71 rfl ?_
          refine V_dup dX0_dueOf_72 rfl ?_
          refine V_getfN (i := 3) k_X7 dX0_dueOf_73 (by decide) (nw q551 rfl) (wX_pro _ (d := p) (by omega) hs2) rfl ?_
          rw [h9b]
          refine V_iconst dX0_dueOf_76 li_1 ?_
          refine V_iaddN dX0_dueOf_77 ?_
          refine Vx_due dX0_dueOf_78 (nw q551 rfl) (by omega) hs2 ?_
          refine V_goto (tgt := 34) dX0_dueOf_81 (by decide) ?_
          have z := ih (d + 1) _ m mm (runsF (mwr T1 9 p (nI d))) (mwr X2 9 p (nI (d + 1))) (by omega) hXn (mwr_s _ _ _ _) h2.1.2.1.2 (mwr_run (by decide) hA) (PV_fr (runsF_fr _) hP2) (FV_wr hV2 (by omega)) hD2 hs2 (.inl hc2.1) (by rw [← hR, duK_s, if_pos hc, if_pos hc])
          rw [e0.1, e0.2] at z
          exact z
  refine V_aload_n dX0_dueOf_0 rfl ?_
  refine V_getf (i := 2) k_X0 dX0_dueOf_1 (by decide) q229 (wX_obj _) rfl ?_
  refine V_getfU (i := 6) k_X3 dX0_dueOf_4 (by decide) q177 q178 (wX_tx1 _) rfl ?_
  refine V_iload_n dX0_dueOf_7 rfl ?_
  refine V_get (q := 1) (hl 1 (by decide)) rfl (by rw [c0]; exact hp) dX0_dueOf_8 (lw_V q665 q666 q667 q100 q668) (Nat.le_of_ble_eq_true rfl) (by decide) ?_
  rw [eln_1]
  refine V_castE dX0_dueOf_11 q711 (.inl ⟨_, _, _, _, (wX_pro _ (d := p) (by omega) d0), cl_X7, rfl⟩) ?_
  refine V_astore_n dX0_dueOf_14 rfl (Nat.le_of_ble_eq_true rfl) (Nat.le_of_ble_eq_true rfl) ?_
  refine V_aload_n dX0_dueOf_15 rfl ?_
  refine V_getfN (i := 3) k_X7 dX0_dueOf_16 (by decide) (nw q551 rfl) (wX_pro _ (d := p) (by omega) d0) rfl ?_
  rw [y0]
  refine V_istore dX0_dueOf_19 rfl (Nat.le_of_ble_eq_true rfl) (Nat.le_of_ble_eq_true rfl) ?_
  refine V_iconst dX0_dueOf_21 li_m1 ?_
  refine V_istore dX0_dueOf_22 rfl (Nat.le_of_ble_eq_true rfl) (Nat.le_of_ble_eq_true rfl) ?_
  refine V_sipush dX0_dueOf_24 ls_9999 ?_
  refine V_istore dX0_dueOf_27 rfl (Nat.le_of_ble_eq_true rfl) (Nat.le_of_ble_eq_true rfl) ?_
  refine V_aload_n dX0_dueOf_29 rfl ?_
  refine V_iconst dX0_dueOf_30 li_0 ?_
  refine Vx_due dX0_dueOf_31 (nw q551 rfl) (by omega) d0 ?_
  exact L 24 0 (-1) (nI 999) 9999 R (mwr X 9 p (nI 0)) (by decide) (XT_9 h.1 hf1 hp) (mwr_s _ _ _ _) hf1 (by rw [mwr_self]; exact AP_rf R) h.1.2.2.2.2.1 (FV_wr (FV_rf X) (by omega)) h.2.2 d0 (.inr ⟨rfl, rfl, rfl⟩) rfl
