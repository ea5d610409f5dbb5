/-! PromiseTailor's side: what is seen, never -/
set_option maxRecDepth 100000
theorem isPT2 {T : xSt} {k : Int32} (h : vN (T 2 0) ≤ 8) (e : T 2 0 = nI (vN (T 2 0))) {w : Nat} (hw : w < 8) (hk : k = nI w) : (T 2 0 ≤ k) ↔ ¬ w < vN (T 2 0) := by
  generalize vN (T 2 0) = P at h e
  rw [e, hk]
  exact ⟨fun z y => absurd z (nI_ge y (by omega)), fun z => nI_le (by omega) (by omega)⟩
theorem SV_run {T : xSt} (h : SV T) : SV (runsF T) := SV_eq ⟨runsF_fr T 34 (by omega), runsF_fr T 35 (by omega), runsF_fr T 36 (by omega)⟩ h
theorem SV_AP {R T : xSt} (h : SV R) (a : AP R T) : SV T := SV_eq ⟨a.1 34 (by unfold cj; omega), a.1 35 (by unfold cj; omega), a.1 36 (by unfold cj; omega)⟩ h

set_option maxHeartbeats 4000000 in
theorem x_isSeen (l : Launch) {T X : xSt} (h0 : XT T X) (hS : SV T) : Cx l yX0_isSeen (ws_ yX0_isSeen cX0_isSeen 4 (some .boolean)) 21 [.ref 0] X (fun r X' => ∃ x, r = some (.int x) ∧ x = bI (snQ (runsF T)) ∧ RD (runsF T) X' ∧ X' 55 0 = nI 24 ∧ FW X X') := by
  refine Cz_start (ls := [some (.ref 0), none, none, none]) (by decide) rfl (Nat.le_of_ble_eq_true rfl) fF_lo ?_
  intro Q hQ
  have hS2 := SV_run hS
  have hsn : snQ (runsF T) ↔ snK (runsF T) (vN (runsF T 34 0)) 0 = nI 1 := Iff.rfl
  generalize hU : runsF T = U at hS2 hsn hQ
  have s8 := bd_v hS2.1 (by decide)
  generalize hn : vN (U 34 0) = n at s8 hsn
  have D : ∀ (i : Nat) (l3 : Option Value) (X1 : xSt), i ≤ n → cnt X1 5 = n → RD U X1 → X1 55 0 = nI 24 → FW X X1 → snK U n 0 = nI 0 → V l (yX0_isSeen.cls, cX0_isSeen, 4, (some .boolean), [], yX0_isSeen.name) (rmD 21 (rc X) (rs X), fF X, Q, xX0) 8 [some (.ref 0), some (.int (nI 0)), some (.int (nI i)), l3] [] (wX X1) 0 0 := by
    intro i l3 X1 hi hc hR h5 hW hz
    have hl := hR.1.1.2.1
    refine V_iload_n dX0_isSeen_8 rfl ?_
    refine V_aload_n dX0_isSeen_9 rfl ?_
    refine V_getf (i := 18) k_X0 dX0_isSeen_10 (by decide) q245 (wX_obj _) rfl ?_
    refine V_size (q := 5) (hl 5 (by decide)) dX0_isSeen_13 (lw_V q725 q365 q366 q100 q367) (Nat.le_of_ble_eq_true rfl) (by decide) ?_
    rw [hc]
    refine V_icmp_geN (tgt := 75) dX0_isSeen_16 (by decide) (by omega) (by omega) (fun c16 => ?_) (fun c16 => ?_)
    · refine V_iload_n dX0_isSeen_75 rfl ?_
      exact V_zreturn dX0_isSeen_76 rfl (by first | exact bI_nr | exact nr_0 | exact nr_1 | rfl) (hQ _ _ ⟨_, rfl, ⟨bI_f (fun z => by rw [hsn.mp z] at hz; exact absurd hz (by decide +kernel)), hR, h5, hW⟩⟩)
    · refine V_iload_n dX0_isSeen_19 rfl ?_
      refine V_if_eq (tgt := 75) dX0_isSeen_20 (by decide) (fun _ => ?_) (fun c20 => absurd rfl c20)
      refine V_iload_n dX0_isSeen_75 rfl ?_
      exact V_zreturn dX0_isSeen_76 rfl (by first | exact bI_nr | exact nr_0 | exact nr_1 | rfl) (hQ _ _ ⟨_, rfl, ⟨bI_f (fun z => by rw [hsn.mp z] at hz; exact absurd hz (by decide +kernel)), hR, h5, hW⟩⟩)
  have L : ∀ (j i : Nat) (l3 : Option Value) (X1 : xSt), i + j = n → cnt X1 5 = n → RD U X1 → X1 55 0 = nI 24 → FW X X1 → snK U j i = snK U n 0 → V l (yX0_isSeen.cls, cX0_isSeen, 4, (some .boolean), [], yX0_isSeen.name) (rmD 21 (rc X) (rs X), fF X, Q, xX0) 8 [some (.ref 0), some (.int (nI 1)), some (.int (nI i)), l3] [] (wX X1) 0 0 := by
    intro j
    induction j with
    | zero =>
      intro i l3 X1 hij hc hR h5 hW hz
      have hl := hR.1.1.2.1
      refine V_iload_n dX0_isSeen_8 rfl ?_
      refine V_aload_n dX0_isSeen_9 rfl ?_
      refine V_getf (i := 18) k_X0 dX0_isSeen_10 (by decide) q245 (wX_obj _) rfl ?_
      refine V_size (q := 5) (hl 5 (by decide)) dX0_isSeen_13 (lw_V q725 q365 q366 q100 q367) (Nat.le_of_ble_eq_true rfl) (by decide) ?_
      rw [hc]
      refine V_icmp_geN (tgt := 75) dX0_isSeen_16 (by decide) (by omega) (by omega) (fun c16 => ?_) (fun c16 => ?_)
      · refine V_iload_n dX0_isSeen_75 rfl ?_
        exact V_zreturn dX0_isSeen_76 rfl (by first | exact bI_nr | exact nr_0 | exact nr_1 | rfl) (hQ _ _ ⟨_, rfl, ⟨bI_t (hsn.mpr (by rw [← hz]; rfl)), hR, h5, hW⟩⟩)
      · exact absurd c16 (by omega)
    | succ j ih =>
      intro i l3 X1 hij hc hR h5 hW hz
      obtain ⟨hl, c0, d0, c1, d1, n2, b2, n5, b5, m2, m5, y0, y1⟩ := RD_x hR.1 hR.2.1
      have hs5 : i < std X1 5 := by rw [hR.1.1.2.2.2.2.2.2.2.1 5 (by decide) (by decide)]; omega
      have k0 : X1 (35 + 0) i = U 35 i := congrFun (hR.1.2.1 35 (by omega)) i
      have k1 : X1 (35 + 1) i = U 36 i := congrFun (hR.1.2.1 36 (by omega)) i
      have k2 : X1 (35 + 2) i = U 37 i := congrFun (hR.1.2.1 37 (by omega)) i
      obtain ⟨e, he, he2⟩ := hS2.2.1 i (by omega)
      obtain ⟨w, hw, hw2⟩ := hS2.2.2 i (by omega)
      have hp := isPT2 (T := U) b2 m2 (show w < 8 by omega) hw2
      refine V_iload_n dX0_isSeen_8 rfl ?_
      refine V_aload_n dX0_isSeen_9 rfl ?_
      refine V_getf (i := 18) k_X0 dX0_isSeen_10 (by decide) q245 (wX_obj _) rfl ?_
      refine V_size (q := 5) (hl 5 (by decide)) dX0_isSeen_13 (lw_V q725 q365 q366 q100 q367) (Nat.le_of_ble_eq_true rfl) (by decide) ?_
      rw [hc]
      refine V_icmp_geN (tgt := 75) dX0_isSeen_16 (by decide) (by omega) (by omega) (fun c16 => ?_) (fun c16 => ?_)
      · exact absurd c16 (by omega)
      · refine V_iload_n dX0_isSeen_19 rfl ?_
        refine V_if_eq (tgt := 75) dX0_isSeen_20 (by decide) (fun c20 => absurd c20 (by decide +kernel)) (fun _ => ?_)
        refine V_aload_n dX0_isSeen_23 rfl ?_
        refine V_getf (i := 18) k_X0 dX0_isSeen_24 (by decide) q245 (wX_obj _) rfl ?_
        refine V_iload_n dX0_isSeen_27 rfl ?_
        refine V_get (q := 5) (hl 5 (by decide)) rfl (by omega) dX0_isSeen_28 (lw_V q665 q666 q667 q100 q668) (Nat.le_of_ble_eq_true rfl) (by decide) ?_
        rw [eln_5]
        refine V_castE dX0_isSeen_31 q213 (.inr ⟨_, _, _, (wX_sn _ (d := i) (by omega) hs5), by decide⟩) ?_
        refine V_astore_n dX0_isSeen_34 rfl (Nat.le_of_ble_eq_true rfl) (Nat.le_of_ble_eq_true rfl) ?_
        refine V_aload_n dX0_isSeen_35 rfl ?_
        refine V_aload_n dX0_isSeen_36 rfl ?_
        refine V_iconst dX0_isSeen_37 li_1 ?_
        refine Vx_ldc dX0_isSeen_38 (wX_sn _ (d := i) (by omega) hs5) rfl (by decide) (by decide) ?_
        rw [k1, hw2]
        refine Vq_v (x_isPersonF l hR.2.1.1 (hl 0 (by decide)) _) dX0_isSeen_39 (lw_V q654 q656 qs5 q95 q657) hv_X0_isPerson (by decide) (wX_obj _) cl_X0 rfl rfl (Nat.le_of_ble_eq_true rfl) ?_
        rw [isPT (T := U) b2 n2 (by omega)]
        refine V_if_eqB (tgt := 67) dX0_isSeen_42 (by decide) (fun c42 => ?_) (fun c42 => ?_)
        · refine V_iconst dX0_isSeen_67 li_0 ?_
          refine V_istore_n dX0_isSeen_68 rfl (Nat.le_of_ble_eq_true rfl) (Nat.le_of_ble_eq_true rfl) ?_
          refine V_iinc dX0_isSeen_69 rfl (iinc_1 _) rfl (Nat.le_of_ble_eq_true rfl) ?_
          refine V_goto (tgt := 8) dX0_isSeen_72 (by decide) ?_
          exact D (i + 1) _ X1 (by omega) hc hR h5 hW (by rw [← hz, snK_s, if_pos (hp.mpr c42)])
        · refine V_aload_n dX0_isSeen_45 rfl ?_
          refine V_getf (i := 9) k_X0 dX0_isSeen_46 (by decide) q236 (wX_obj _) rfl ?_
          refine V_aload_n dX0_isSeen_49 rfl ?_
          refine V_iconst dX0_isSeen_50 li_0 ?_
          refine Vx_ldc dX0_isSeen_51 (wX_sn _ (d := i) (by omega) hs5) rfl (by decide) (by decide) ?_
          rw [k0, he2]
          refine Vx_aa_coatsBy dX0_isSeen_52 rfl (by omega) ?_
          refine V_aload_n dX0_isSeen_53 rfl ?_
          refine V_iconst dX0_isSeen_54 li_1 ?_
          refine Vx_ldc dX0_isSeen_55 (wX_sn _ (d := i) (by omega) hs5) rfl (by decide) (by decide) ?_
          rw [k1, hw2]
          refine Vx_ld_crow dX0_isSeen_56 (by omega) rfl (by omega) ?_
          rw [(RQ_30 (T := U) ⟨hR, h5⟩ (show e < 24 by omega) c42).1]
          refine V_aload_n dX0_isSeen_57 rfl ?_
          refine V_iconst dX0_isSeen_58 li_2 ?_
          refine Vx_ldc dX0_isSeen_59 (wX_sn _ (d := i) (by omega) hs5) rfl (by decide) (by decide) ?_
          rw [k2]
          refine V_icmp_ne (tgt := 67) dX0_isSeen_60 (by decide) (fun c60 => ?_) (fun c60 => ?_)
          · refine V_iconst dX0_isSeen_67 li_0 ?_
            refine V_istore_n dX0_isSeen_68 rfl (Nat.le_of_ble_eq_true rfl) (Nat.le_of_ble_eq_true rfl) ?_
            refine V_iinc dX0_isSeen_69 rfl (iinc_1 _) rfl (Nat.le_of_ble_eq_true rfl) ?_
            refine V_goto (tgt := 8) dX0_isSeen_72 (by decide) ?_
            exact D (i + 1) _ X1 (by omega) hc hR h5 hW (by rw [← hz, snK_s, if_neg (fun z => hp.mp z c42), if_neg (by rw [he2, hw2, vN_nI (by omega), vN_nI (by omega)]; exact c60)])
          · refine V_iconst dX0_isSeen_63 li_1 ?_
            refine V_goto (tgt := 68) dX0_isSeen_64 (by decide) ?_
            refine V_istore_n dX0_isSeen_68 rfl (Nat.le_of_ble_eq_true rfl) (Nat.le_of_ble_eq_true rfl) ?_
            refine V_iinc dX0_isSeen_69 rfl (iinc_1 _) rfl (Nat.le_of_ble_eq_true rfl) ?_
            refine V_goto (tgt := 8) dX0_isSeen_72 (by decide) ?_
            refine ih (i + 1) _ X1 (by omega) hc hR h5 hW ?_
            rw [← hz, snK_s, if_neg (fun z => hp.mp z c42), if_pos (by rw [he2, hw2, vN_nI (by omega), vN_nI (by omega)]; exact c60)]
  refine V_aload_n dX0_isSeen_0 rfl ?_
  refine Vz_vV (k' := 0) (n' := 0) (x_find l h0) dX0_isSeen_1 (lw_V q789 q791 qs9 q95 q792) hv_X0_find (by decide) (wX_obj _) cl_X0 rfl rfl (Nat.le_of_ble_eq_true rfl) (fun _ z => z) (okl_c (ok_r (fF_ok (.inl (Nat.le_of_ble_eq_true rfl)))) (okl_n (okl_n (okl_n okl_0)))) oks_0 ⟨Nat.le_refl _, Nat.le_refl _⟩ (fun X2 h2 => ?_)
  rw [hU] at h2
  refine V_iconst dX0_isSeen_4 li_1 ?_
  refine V_istore_n dX0_isSeen_5 rfl (Nat.le_of_ble_eq_true rfl) (Nat.le_of_ble_eq_true rfl) ?_
  refine V_iconst dX0_isSeen_6 li_0 ?_
  refine V_istore_n dX0_isSeen_7 rfl (Nat.le_of_ble_eq_true rfl) (Nat.le_of_ble_eq_true rfl) ?_
  exact L n 0 _ X2 (Nat.zero_add _) (by rw [← hn, ← h2.1.1.2.1 34 (by omega)]; rfl) h2.1 h2.2.1 h2.2.2 rfl
set_option maxHeartbeats 4000000 in
theorem x_neverNow (l : Launch) {R X : xSt} (h : PT R X) (h10 : R 10 0 = X 10 0) (hS : SV R) : Cx l yX0_neverNow (wsW_ yX0_neverNow cX0_neverNow 4 (some .int) [(2, 45, 53, 0)]) 22 [.ref 0] X (fun r X' => ∃ x, r = some (.int x) ∧ x = (neverF R).1 ∧ PT R X' ∧ FV X X') := by
  refine Cz_startW (ls := [some (.ref 0), none, none, none]) (by decide) rfl (Nat.le_of_ble_eq_true rfl) fF_lo ?_
  intro Q hQ
  have q8 := bd_v h.1.1.2.2.2.2.2.2.2.2.2.2.1 (by decide)
  rw [← h10] at q8
  have hq : cnt X 2 = vN (R 10 0) := by rw [h10]; rfl
  generalize hqq : vN (R 10 0) = q at hq q8
  have hcq : ∀ Y, FV X Y → cnt Y 2 = q := fun Y hY => by unfold cnt; rw [show szr 2 = 10 from rfl, hY.1 10 (by omega)]; exact hq
  have L : ∀ (j i : Nat) (a : Int32) (T1 X1 : xSt), i + j = q → XB R X1 → AP R T1 → PV T1 → HG R T1 → T1 26 0 = nI 0 → FV X X1 → X1 45 0 = -1 ∧ X1 45 2 = -1 ∧ X1 26 0 = nI 0 → nvK j i a T1 = neverF R → V l (yX0_neverNow.cls, cX0_neverNow, 4, (some .int), [(2, 45, 53, 0)], yX0_neverNow.name) (rmD 22 (rc X) (rs X), fF X, Q, xX0) 4 [some (.ref 0), some (.int (a)), some (.int (nI i)), none] [] (wX X1) (rc X1) (rs X1) := by
    intro j
    induction j with
    | zero =>
      intro i a T1 X1 hij hB hA hP hG h26 hV hO hR
      have hl : ∀ q, q < 6 → LQ X1 q := by obtain ⟨S, Y, a1, a2, a3⟩ := hB; exact (BX_od a3 a1.1).2.1
      have o1 : od X1 (mwr X1 25 0 (nI 0)) := od_wr (od_rf X1) (by omega)
      refine V_iload_n dX0_neverNow_4 rfl ?_
      refine V_aload_n dX0_neverNow_5 rfl ?_
      refine V_getf (i := 3) k_X0 dX0_neverNow_6 (by decide) q230 (wX_obj _) rfl ?_
      refine V_size (q := 2) (hl 2 (by decide)) dX0_neverNow_9 (lw_V q725 q365 q366 q100 q367) (Nat.le_of_ble_eq_true rfl) (by decide) ?_
      rw [hcq X1 hV]
      refine V_icmp_geN (tgt := 45) dX0_neverNow_12 (by decide) (by omega) (by omega) (fun c12 => ?_) (fun c12 => ?_)
      · refine V_aload_n dX0_neverNow_45 rfl ?_
        refine V_iconst dX0_neverNow_46 li_0 ?_
        refine Vx_put12 dX0_neverNow_47 q239 ?_
        refine V_goto (tgt := 61) dX0_neverNow_50 (by decide) ?_
        refine V_iload_n dX0_neverNow_61 rfl ?_
        exact V_ireturn dX0_neverNow_62 rfl (hQ _ _ ⟨_, rfl, ⟨by rw [← hR]; rfl, PT_xb h hB hV o1 ⟨hO.1, hO.2.1, mwr_s _ _ _ _, hO.2.2⟩, FV_tr hV (FV_od o1)⟩⟩)
      · exact absurd c12 (by omega)
    | succ j ih =>
      intro i a T1 X1 hij hB hA hP hG h26 hV hO hR
      have hl : ∀ q, q < 6 → LQ X1 q := by obtain ⟨S, Y, a1, a2, a3⟩ := hB; exact (BX_od a3 a1.1).2.1
      have o0 : od X1 (mwr X1 25 0 (sh1 i)) := od_wr (od_rf X1) (by omega)
      have hA2 : AP R (mwr T1 25 0 (sh1 i)) := AP_tr hA (AP_wr (by omega))
      have hV1 := FV_tr hV (FV_od o0)
      have hX1 : XT (mwr T1 25 0 (sh1 i)) (mwr X1 25 0 (sh1 i)) := XB_XT (XB_od hB o0) hA2 (PV_wr (by omega) hP) (XK_h (KD_FV h.2.1 hV1) (HG_wr hG (by omega)) hO.1 (by rw [mwr_s, mwr_s]) (hO.2.2.trans h26.symm)) (XO_h (KD_FV h.2.1 hV1) (HG_wr hG (by omega)) hA2 hO.2.1)
      refine V_iload_n dX0_neverNow_4 rfl ?_
      refine V_aload_n dX0_neverNow_5 rfl ?_
      refine V_getf (i := 3) k_X0 dX0_neverNow_6 (by decide) q230 (wX_obj _) rfl ?_
      refine V_size (q := 2) (hl 2 (by decide)) dX0_neverNow_9 (lw_V q725 q365 q366 q100 q367) (Nat.le_of_ble_eq_true rfl) (by decide) ?_
      rw [hcq X1 hV]
      refine V_icmp_geN (tgt := 45) dX0_neverNow_12 (by decide) (by omega) (by omega) (fun c12 => ?_) (fun c12 => ?_)
      · exact absurd c12 (by omega)
      · refine V_aload_n dX0_neverNow_15 rfl ?_
        refine V_iconst dX0_neverNow_16 li_1 ?_
        refine V_iload_n dX0_neverNow_17 rfl ?_
        refine V_ishl dX0_neverNow_18 ?_
        refine Vx_put12 dX0_neverNow_19 q239 ?_
        refine V_iload_n dX0_neverNow_22 rfl ?_
        refine V_aload_n dX0_neverNow_23 rfl ?_
        refine Vz_vI (k' := 0) (n' := 0) (x_isSeen l hX1 (SV_AP hS hA2)) dX0_neverNow_24 (lw_V q958 q960 qs29 q95 q961) hv_X0_isSeen (by decide) (wX_obj _) cl_X0 rfl rfl (Nat.le_of_ble_eq_true rfl) (fF_FV hV1) (okl_c (ok_r (fF_ok (.inl (Nat.le_of_ble_eq_true rfl)))) (okl_c ok_i (okl_c ok_i (okl_n okl_0)))) (oks_c ok_i oks_0) ⟨Nat.le_refl _, Nat.le_refl _⟩ (fun x2 X2 h2 => ?_)
        obtain ⟨ex, h2⟩ := h2
        rw [ex]
        have hV2 : FV X X2 := FV_tr hV1 (FV_FW h2.2.2)
        have e0 := rc_0 (X := X2) h2.1.2.1
        have hO2 : X2 45 0 = -1 ∧ X2 45 2 = -1 ∧ X2 26 0 = nI 0 := by rw [h2.2.2.1 45 (by omega), h2.2.2.1 26 (by omega)]; exact hO
        refine V_if_eqB (tgt := 36) dX0_neverNow_27 (by decide) (fun c27 => ?_) (fun c27 => ?_)
        · refine V_iconst dX0_neverNow_36 li_0 ?_
          refine V_ior dX0_neverNow_37 ?_
          refine V_istore_n dX0_neverNow_38 rfl (Nat.le_of_ble_eq_true rfl) (Nat.le_of_ble_eq_true rfl) ?_
          refine V_iinc dX0_neverNow_39 rfl (iinc_1 _) rfl (Nat.le_of_ble_eq_true rfl) ?_
          refine V_goto (tgt := 4) dX0_neverNow_42 (by decide) ?_
          have z := ih (i + 1) _ (runsF (mwr T1 25 0 (sh1 i))) X2 (by omega) (XB_run h2.1 hA2) (AP_tr hA2 (AP_fr (runsF_fr _))) (PV_fr (runsF_fr _) (PV_wr (by omega) hP)) (HG_fr (HG_wr hG (by omega)) (runsF_fr _)) ((congrFun (runsF_fr _ 26 (by omega)) 0).trans h26) hV2 hO2 (by rw [← hR, nvK_s, if_neg c27])
          rw [e0.1, e0.2] at z
          exact z
        · refine V_iconst dX0_neverNow_30 li_1 ?_
          refine V_iload_n dX0_neverNow_31 rfl ?_
          refine V_ishl dX0_neverNow_32 ?_
          refine V_goto (tgt := 37) dX0_neverNow_33 (by decide) ?_
          refine V_ior dX0_neverNow_37 ?_
          refine V_istore_n dX0_neverNow_38 rfl (Nat.le_of_ble_eq_true rfl) (Nat.le_of_ble_eq_true rfl) ?_
          refine V_iinc dX0_neverNow_39 rfl (iinc_1 _) rfl (Nat.le_of_ble_eq_true rfl) ?_
          refine V_goto (tgt := 4) dX0_neverNow_42 (by decide) ?_
          have z := ih (i + 1) _ (runsF (mwr T1 25 0 (sh1 i))) X2 (by omega) (XB_run h2.1 hA2) (AP_tr hA2 (AP_fr (runsF_fr _))) (PV_fr (runsF_fr _) (PV_wr (by omega) hP)) (HG_fr (HG_wr hG (by omega)) (runsF_fr _)) ((congrFun (runsF_fr _ 26 (by omega)) 0).trans h26) hV2 hO2 (by rw [← hR, nvK_s, if_pos c27])
          rw [e0.1, e0.2] at z
          exact z
  refine V_iconst dX0_neverNow_0 li_0 ?_
  refine V_istore_n dX0_neverNow_1 rfl (Nat.le_of_ble_eq_true rfl) (Nat.le_of_ble_eq_true rfl) ?_
  refine V_iconst dX0_neverNow_2 li_0 ?_
  refine V_istore_n dX0_neverNow_3 rfl (Nat.le_of_ble_eq_true rfl) (Nat.le_of_ble_eq_true rfl) ?_
  exact L q 0 (nI 0) R X (Nat.zero_add _) (XB_0 h.1) (AP_rf R) h.1.2.2.2.2.1 (HG_rf R) h.2.1.2.2.2.1 (FV_rf X) ⟨h.2.2.1, h.2.2.2.1, h.2.2.2.2.2⟩ (by unfold neverF; rw [hqq])
