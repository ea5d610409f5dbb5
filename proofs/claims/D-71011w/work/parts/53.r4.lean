/-! PromiseTailor's side: makes, keeps, breaks -/
set_option maxRecDepth 100000
theorem isPT {T X : xSt} {w : Nat} (hP : vN (T 2 0) ≤ 8) (h2 : X 2 0 = nI (vN (T 2 0))) (hw : w < 1000) : bI (nI 0 ≤ nI w ∧ nI w ≤ X 2 0 - nI 1) = bI (w < vN (T 2 0)) := by
  rw [h2]
  exact bI_iff (isP_iff hP hw)
set_option maxHeartbeats 4000000 in
theorem x_makes (l : Launch) {T X : xSt} (hD0 : RD T X) {d : Nat} (hd : d < 24) : Cy l yX0_makes (ws_ yX0_makes cX0_makes 4 none) 17 [.ref 0, .int (nI d)] X (fun r X' => r = none ∧ RD (makesF (nI d) T) X' ∧ fr X X') := by
  refine Cz_start (ls := [some (.ref 0), some (.int (nI d)), none, none]) (by decide) rfl (Nat.le_of_ble_eq_true rfl) (fun _ _ _ h => h) ?_
  intro Q hQ
  have L2 : ∀ (j i e : Nat) (T1 X1 : xSt), i + j = vN (T 5 0) → vN (T 21 0) = vN (T 5 0) + e → RD T1 X1 → fr T T1 → fr X X1 → itF (mkF (nI d)) (j + e) i T1 = makesF (nI d) T → V l (yX0_makes.cls, cX0_makes, 4, none, [], yX0_makes.name) (rmD 17 0 0, xF0, Q, xX0) 2 [some (.ref 0), some (.int (nI d)), some (.int (nI i)), none] [] (wX X1) 0 0 := by
    intro j
    induction j with
    | zero =>
      intro i e T1 X1 hij he hD hT hX hR
      obtain ⟨hl, c0, d0, c1, d1, n2, b2, n5, b5, m2, m5, y0, y1⟩ := RD_x hD.1 hD.2.1
      have t5 : T1 5 = T 5 := hT 5 (by omega)
      rw [t5] at c1 d1 n5 b5
      have hi : i = vN (T 5 0) := by omega
      subst hi
      rw [Nat.zero_add] at hR
      have hO := hD.1.2.2.2.1
      have hx5 : T1 21 0 = T 21 0 := by rw [hT 21 (by omega)]
      have hx6 : T1 2 0 = T 2 0 := by rw [hT 2 (by omega)]
      rcases hO with ⟨o1, o2⟩ | ⟨q, o1, o2, o3, o4, o5, o6, o7⟩
      · have he0 : e = 0 := by rw [hx5, t5] at o2; rw [o2] at he; omega
        subst he0
        have hFIN : RD (makesF (nI d) T) X1 := by rw [← hR]; exact hD
        refine V_iload_n dX0_makes_2 rfl ?_
        refine V_aload_n dX0_makes_3 rfl ?_
        refine V_getf (i := 2) k_X0 dX0_makes_4 (by decide) q229 (wX_obj _) rfl ?_
        refine V_getfU (i := 6) k_X3 dX0_makes_7 (by decide) q177 q178 (wX_tx1 _) rfl ?_
        refine V_size (q := 1) (hl 1 (by decide)) dX0_makes_10 (lw_V q725 q365 q366 q100 q367) (Nat.le_of_ble_eq_true rfl) (by decide) ?_
        rw [c1]
        refine V_icmp_ge (tgt := 101) dX0_makes_13 (by decide) (fun _ => ?_) (fun c13 => absurd (nI_le (by omega) (by omega)) c13)
        refine V_iload_n dX0_makes_101 rfl ?_
        refine V_if_ne (tgt := 148) dX0_makes_102 (by decide) (fun c102 => ?_) (fun c102 => ?_)
        · exact V_vreturn dX0_makes_148 rfl (hQ _ _ ⟨rfl, ⟨hFIN, hX⟩⟩)
        · refine V_aload_n dX0_makes_105 rfl ?_
          refine V_getf (i := 16) k_X0 dX0_makes_106 (by decide) q243 (wX_obj _) rfl ?_
          refine V_iconst dX0_makes_109 li_m1 ?_
          refine V_icmp_eq (tgt := 148) dX0_makes_110 (by decide) (fun _ => ?_) (fun c110 => absurd o1 c110)
          exact V_vreturn dX0_makes_148 rfl (hQ _ _ ⟨rfl, ⟨hFIN, hX⟩⟩)
      · have he1 : e = 1 := by rw [hx5, t5] at o3; rw [o3, vN_nI (by omega)] at he; omega
        subst he1
        rw [t5] at o3 o4 o5 o6 o7
        rw [hx6] at o1
        have hp8 : vN (T1 2 0) ≤ 8 := b2
        rw [hx6] at hp8 c0 d0
        have hso : bd (X1 3 q) 2 := by rw [(y0.2 q (by rw [hx6]; exact o1)).1]; exact (hD.1.2.2.2.2.2.1.1 q (by rw [hx6]; exact o1)).1
        have hw : wN T1 (vN (T 5 0)) = q := by unfold wN; rw [o4, vN_nI (by omega)]
        have hmk : mkF (nI d) (vN (T 5 0)) T1 = makesF (nI d) T := hR
        unfold mkF mkS at hmk
        rw [o6, o4, hw, if_neg (show ¬ T1 2 0 ≤ nI q from by rw [m2, hx6]; exact nI_ge o1 (by omega)), o5] at hmk
        refine V_iload_n dX0_makes_2 rfl ?_
        refine V_aload_n dX0_makes_3 rfl ?_
        refine V_getf (i := 2) k_X0 dX0_makes_4 (by decide) q229 (wX_obj _) rfl ?_
        refine V_getfU (i := 6) k_X3 dX0_makes_7 (by decide) q177 q178 (wX_tx1 _) rfl ?_
        refine V_size (q := 1) (hl 1 (by decide)) dX0_makes_10 (lw_V q725 q365 q366 q100 q367) (Nat.le_of_ble_eq_true rfl) (by decide) ?_
        rw [c1]
        refine V_icmp_ge (tgt := 101) dX0_makes_13 (by decide) (fun _ => ?_) (fun c13 => absurd (nI_le (by omega) (by omega)) c13)
        refine V_iload_n dX0_makes_101 rfl ?_
        refine V_if_ne (tgt := 148) dX0_makes_102 (by decide) (fun c102 => ?_) (fun c102 => ?_)
        · have hFIN : RD (makesF (nI d) T) X1 := by rw [← hmk, if_neg (fun z => c102 (z.symm.trans nI_0))]; exact hD
          exact V_vreturn dX0_makes_148 rfl (hQ _ _ ⟨rfl, ⟨hFIN, hX⟩⟩)
        · rw [if_pos (show nI 0 = nI d from nI_0.trans c102.symm)] at hmk
          refine V_aload_n dX0_makes_105 rfl ?_
          refine V_getf (i := 16) k_X0 dX0_makes_106 (by decide) q243 (wX_obj _) rfl ?_
          refine V_iconst dX0_makes_109 li_m1 ?_
          refine V_icmp_eq (tgt := 148) dX0_makes_110 (by decide) (fun c110 => absurd c110 (by rw [o2]; intro z; have h := nI_pos' (n := q) (by omega); rw [z] at h; exact absurd h (by decide +kernel))) (fun _ => ?_)
          refine V_aload_n dX0_makes_113 rfl ?_
          refine V_aload_n dX0_makes_114 rfl ?_
          refine V_getf (i := 16) k_X0 dX0_makes_115 (by decide) q243 (wX_obj _) rfl ?_
          refine V_aload_n dX0_makes_118 rfl ?_
          refine V_getf (i := 1) k_X0 dX0_makes_119 (by decide) q228 (wX_obj _) rfl ?_
          refine V_getfU (i := 6) k_X2 dX0_makes_122 (by decide) q175 q176 (wX_tx0 _) rfl ?_
          refine V_aload_n dX0_makes_125 rfl ?_
          refine V_getf (i := 16) k_X0 dX0_makes_126 (by decide) q243 (wX_obj _) rfl ?_
          refine V_get (q := 0) (hl 0 (by decide)) o2 (by rw [c0]; exact o1) dX0_makes_129 (lw_V q665 q666 q667 q100 q668) (Nat.le_of_ble_eq_true rfl) (by decide) ?_
          rw [eln_0]
          refine V_castE dX0_makes_132 q679 (.inl ⟨_, _, _, _, (wX_per _ (d := q) (by omega) (by rw [d0]; exact o1)), cl_X8, rfl⟩) ?_
          refine V_getfN (i := 0) k_X8 dX0_makes_135 (by decide) (nw q582 rfl) (wX_per _ (d := q) (by omega) (by rw [d0]; exact o1)) rfl ?_
          refine V_aload_n dX0_makes_138 rfl ?_
          refine V_getf (i := 17) k_X0 dX0_makes_139 (by decide) q244 (wX_obj _) rfl ?_
          refine V_longer (hso) (so3 _) dX0_makes_142 q801 (Nat.le_of_ble_eq_true rfl) (by decide) ?_
          rw [o2]
          refine Vz_vV (x_cuts l q (by omega) _) dX0_makes_145 (lw_V q812 q814 qs12 q95 q815) hv_X0_cuts (by decide) (wX_obj _) cl_X0 rfl rfl (Nat.le_of_ble_eq_true rfl) (fun _ h => h.elim) (fun _ _ => xok0) (fun _ _ => xok0) ⟨Nat.le_of_eq (Nat.zero_add _), Nat.le_of_eq (Nat.zero_add _)⟩ (fun X2 h2 => ?_)
          exact V_vreturn dX0_makes_148 rfl (hQ _ _ ⟨rfl, ⟨(by rw [h2, ← hmk, (y0.2 q (by rw [hx6]; exact o1)).1]; exact RD_cut _ (by show q < vN (T1 2 0); rw [hx6]; exact o1) (RD_29' _ (by rw [t5]; exact Nat.le_refl _) hD)), by rw [h2]; exact fr_tr hX (fr_cut (fr_rf X1) _ _)⟩⟩)
    | succ j ih =>
      intro i e T1 X1 hij he hD hT hX hR
      obtain ⟨hl, c0, d0, c1, d1, n2, b2, n5, b5, m2, m5, y0, y1⟩ := RD_x hD.1 hD.2.1
      have t5 : T1 5 = T 5 := hT 5 (by omega)
      rw [t5] at c1 d1 n5 b5
      have hw := PV_w hD.1.2.2.2.2.1 (show i < 12 by omega)
      have yi := y1.2 i (by rw [t5]; omega)
      have hs : i < std X1 1 := by omega
      have hRs : itF (mkF (nI d)) (j + e) (i + 1) (mkF (nI d) i T1) = makesF (nI d) T := by rw [← hR, show j + 1 + e = (j + e) + 1 from by omega]; rfl
      have hfT : fr T (mkF (nI d) i T1) := fr_tr hT (mkF_fr _ _ _)
      refine V_iload_n dX0_makes_2 rfl ?_
      refine V_aload_n dX0_makes_3 rfl ?_
      refine V_getf (i := 2) k_X0 dX0_makes_4 (by decide) q229 (wX_obj _) rfl ?_
      refine V_getfU (i := 6) k_X3 dX0_makes_7 (by decide) q177 q178 (wX_tx1 _) rfl ?_
      refine V_size (q := 1) (hl 1 (by decide)) dX0_makes_10 (lw_V q725 q365 q366 q100 q367) (Nat.le_of_ble_eq_true rfl) (by decide) ?_
      rw [c1]
      refine V_icmp_ge (tgt := 101) dX0_makes_13 (by decide) (fun c13 => absurd c13 (nI_ge (by omega) (by omega))) (fun _ => ?_)
      refine V_aload_n dX0_makes_16 rfl ?_
      refine V_getf (i := 2) k_X0 dX0_makes_17 (by decide) q229 (wX_obj _) rfl ?_
      refine V_getfU (i := 6) k_X3 dX0_makes_20 (by decide) q177 q178 (wX_tx1 _) rfl ?_
      refine V_iload_n dX0_makes_23 rfl ?_
      refine V_get (q := 1) (hl 1 (by decide)) rfl (by omega) dX0_makes_24 (lw_V q665 q666 q667 q100 q668) (Nat.le_of_ble_eq_true rfl) (by decide) ?_
      rw [eln_1]
      refine V_castE dX0_makes_27 q711 (.inl ⟨_, _, _, _, (wX_pro _ (d := i) (by omega) hs), cl_X7, rfl⟩) ?_
      refine V_astore_n dX0_makes_30 rfl (Nat.le_of_ble_eq_true rfl) (Nat.le_of_ble_eq_true rfl) ?_
      refine V_aload_n dX0_makes_31 rfl ?_
      refine V_getfN (i := 2) k_X7 dX0_makes_32 (by decide) (nw q549 rfl) (wX_pro _ (d := i) (by omega) hs) rfl ?_
      rw [yi.2.2.1]
      refine V_iload_n dX0_makes_35 rfl ?_
      refine V_icmp_ne (tgt := 95) dX0_makes_36 (by decide) (fun c36 => ?_) (fun c36 => ?_)
      · refine V_iinc dX0_makes_95 rfl (iinc_1 _) rfl (Nat.le_of_ble_eq_true rfl) ?_
        refine V_goto (tgt := 2) dX0_makes_98 (by decide) ?_
        have e1 : mkF (nI d) i T1 = T1 := if_neg c36
        rw [e1] at hRs hfT
        refine V_forget 3 ?_
        exact ih (i + 1) e T1 X1 (by omega) he hD hT hX hRs
      · refine V_aload_n dX0_makes_39 rfl ?_
        refine V_aload_n dX0_makes_40 rfl ?_
        refine V_getfN (i := 0) k_X7 dX0_makes_41 (by decide) (nw q545 rfl) (wX_pro _ (d := i) (by omega) hs) rfl ?_
        rw [yi.1, hw.1]
        refine Vq_v (x_isPersonF l hD.2.1.1 (hl 0 (by decide)) _) dX0_makes_44 (lw_V q654 q656 qs5 q95 q657) hv_X0_isPerson (by decide) (wX_obj _) cl_X0 rfl rfl (Nat.le_of_ble_eq_true rfl) ?_
        rw [isPT (T := T1) b2 n2 (by omega)]
        refine V_if_neB (tgt := 53) dX0_makes_47 (by decide) (fun c47 => ?_) (fun c47 => ?_)
        · have hso : bd (mwr X1 29 i (nI 1) 3 (wN T1 i)) 2 := by
            show bd (X1 3 (wN T1 i)) 2
            rw [(y0.2 _ c47).1]; exact (hD.1.2.2.2.2.2.1.1 _ c47).1
          refine V_aload_n dX0_makes_53 rfl ?_
          refine V_getf (i := 8) k_X0 dX0_makes_54 (by decide) q235 (wX_obj _) rfl ?_
          refine V_iload_n dX0_makes_57 rfl ?_
          refine V_iconst dX0_makes_58 li_1 ?_
          refine Vx_st_states dX0_makes_59 (by first | rfl | assumption) (by omega) ?_
          refine V_aload_n dX0_makes_60 rfl ?_
          refine V_aload_n dX0_makes_61 rfl ?_
          refine V_getfN (i := 0) k_X7 dX0_makes_62 (by decide) (nw q545 rfl) (wX_pro _ (d := i) (by omega) hs) rfl ?_
          refine V_aload_n dX0_makes_65 rfl ?_
          refine V_getf (i := 1) k_X0 dX0_makes_66 (by decide) q228 (wX_obj _) rfl ?_
          refine V_getfU (i := 6) k_X2 dX0_makes_69 (by decide) q175 q176 (wX_tx0 _) rfl ?_
          refine V_aload_n dX0_makes_72 rfl ?_
          refine V_getfN (i := 0) k_X7 dX0_makes_73 (by decide) (nw q545 rfl) (wX_pro _ (d := i) (by omega) hs) rfl ?_
          refine V_get (q := 0) ((LQ_of (X := X1) rfl rfl (hl 0 (by decide)))) (show X1 6 i = nI (wN T1 i) from yi.1.trans hw.1) (by rw [show cnt (mwr X1 29 i (nI 1)) 0 = cnt X1 0 from rfl]; omega) dX0_makes_76 (lw_V q665 q666 q667 q100 q668) (Nat.le_of_ble_eq_true rfl) (by decide) ?_
          rw [eln_0]
          refine V_castE dX0_makes_79 q679 (.inl ⟨_, _, _, _, (wX_per _ (d := (wN T1 i)) (by omega) (show wN T1 i < std X1 0 by omega)), cl_X8, rfl⟩) ?_
          refine V_getfN (i := 0) k_X8 dX0_makes_82 (by decide) (nw q582 rfl) (wX_per _ (d := (wN T1 i)) (by omega) (show wN T1 i < std X1 0 by omega)) rfl ?_
          refine V_aload_n dX0_makes_85 rfl ?_
          refine V_getfN (i := 1) k_X7 dX0_makes_86 (by decide) (nw q547 rfl) (wX_pro _ (d := i) (by omega) hs) rfl ?_
          refine V_longer (hso) (so3 _) dX0_makes_89 q801 (Nat.le_of_ble_eq_true rfl) (by decide) ?_
          rw [show mwr X1 29 i (nI 1) 6 i = nI (wN T1 i) from yi.1.trans hw.1]
          refine Vz_vV (x_cuts l (wN T1 i) hw.2 _) dX0_makes_92 (lw_V q812 q814 qs12 q95 q815) hv_X0_cuts (by decide) (wX_obj _) cl_X0 rfl rfl (Nat.le_of_ble_eq_true rfl) (fun _ h => h.elim) (fun _ _ => xok0) (fun _ _ => xok0) ⟨Nat.le_of_eq (Nat.zero_add _), Nat.le_of_eq (Nat.zero_add _)⟩ (fun X2 h2 => ?_)
          refine V_iinc dX0_makes_95 rfl (iinc_1 _) rfl (Nat.le_of_ble_eq_true rfl) ?_
          refine V_goto (tgt := 2) dX0_makes_98 (by decide) ?_
          have e1 : mkF (nI d) i T1 = mkS i T1 := by unfold mkF; rw [if_pos c36, if_neg (by rw [hw.1, m2]; exact nI_ge c47 (by omega))]
          have e2 : X2 = cutS (wN T1 i) (lenI (T1 3 (wN T1 i)) (T1 7 i)) (mwr X1 29 i (nI 1)) := by
            rw [h2, show mwr X1 29 i (nI 1) 3 (wN T1 i) = T1 3 (wN T1 i) from (y0.2 _ c47).1, show mwr X1 29 i (nI 1) 7 i = T1 7 i from yi.2.1]
          rw [e1] at hRs hfT
          subst e2
          refine V_forget 3 ?_
          exact ih (i + 1) e (mkS i T1) _ (by omega) he (RD_cut _ c47 (RD_29 i _ (fun _ => c47) hD)) hfT (fr_tr hX (fr_cut (fr_mwr (fr_rf X1) (by decide) _ _) _ _)) hRs
        · refine V_goto (tgt := 95) dX0_makes_50 (by decide) ?_
          refine V_iinc dX0_makes_95 rfl (iinc_1 _) rfl (Nat.le_of_ble_eq_true rfl) ?_
          refine V_goto (tgt := 2) dX0_makes_98 (by decide) ?_
          have e1 : mkF (nI d) i T1 = T1 := by unfold mkF; rw [if_pos c36, if_pos (by rw [hw.1, m2]; exact nI_le (by omega) (by omega))]
          rw [e1] at hRs hfT
          refine V_forget 3 ?_
          exact ih (i + 1) e T1 X1 (by omega) he hD hT hX hRs
  refine V_iconst dX0_makes_0 li_0 ?_
  refine V_istore_n dX0_makes_1 rfl (Nat.le_of_ble_eq_true rfl) (Nat.le_of_ble_eq_true rfl) ?_
  have hp := hD0.1.2.2.2.2.1
  rcases hD0.1.2.2.2.1 with ⟨o1, o2⟩ | ⟨q, o1, o2, o3, o4⟩
  · exact L2 _ 0 0 T X (Nat.zero_add _) (by rw [o2]; rfl) hD0 (fr_rf T) (fr_rf X) (by unfold makesF; rw [o2]; rfl)
  · have e1 : vN (T 21 0) = vN (T 5 0) + 1 := by rw [o3]; exact vN_nI (by have := (bd_v hp.2.1 (by decide)).2; omega)
    exact L2 _ 0 1 T X (Nat.zero_add _) e1 hD0 (fr_rf T) (fr_rf X) (by unfold makesF; rw [e1])
