/-! PromiseTailor's side: texts from outside, counts -/
set_option maxRecDepth 100000
theorem two_cases {t : Int32} (h : nI 0 ≤ t ∧ t ≤ nI 1) : t = nI 0 ∨ t = nI 1 := by
  obtain ⟨j, hj, rfl⟩ := bd_I (by decide) h
  rcases (show j = 0 ∨ j = 1 by omega) with e | e
  · rw [e]; exact .inl rfl
  · rw [e]; exact .inr rfl
theorem in_01 : (nI 0 ≤ nI 0 ∧ nI 0 ≤ nI 1) ∧ (nI 0 ≤ nI 1 ∧ nI 1 ≤ nI 1) := by decide +kernel
theorem l64_255 : (255 : Int64) = (nI 255).toInt64 := by decide +kernel

set_option maxHeartbeats 4000000 in
theorem x_text0 (l : Launch) (X : xSt) : Cq l yX0_text cX0_text 2 (some (.object "PromiseTailor$Text")) 0 [.ref 0, .int (nI 0)] (wX X) (some (.ref 64)) := by
  refine Cq_start (ls := [some (.ref 0), some (.int (nI 0))]) (by decide) rfl (Nat.le_of_ble_eq_true rfl) ?_
  intro Q hQ
  refine V_iload_n dX0_text_0 rfl ?_
  refine V_if_ne (tgt := 11) dX0_text_1 (by decide) (fun c1 => absurd (by rfl) c1) (fun _ => ?_)
  refine V_aload_n dX0_text_4 rfl ?_
  refine V_getf (i := 1) k_X0 dX0_text_5 (by decide) q228 (wX_obj _) rfl ?_
  refine V_goto (tgt := 15) dX0_text_8 (by decide) ?_
  exact V_areturn dX0_text_15 rfl (.inl ⟨_, rfl⟩) (.inr ⟨_, rfl⟩) hQ
set_option maxHeartbeats 4000000 in
theorem x_text1 (l : Launch) (X : xSt) : Cq l yX0_text cX0_text 2 (some (.object "PromiseTailor$Text")) 0 [.ref 0, .int (nI 1)] (wX X) (some (.ref 65)) := by
  refine Cq_start (ls := [some (.ref 0), some (.int (nI 1))]) (by decide) rfl (Nat.le_of_ble_eq_true rfl) ?_
  intro Q hQ
  refine V_iload_n dX0_text_0 rfl ?_
  refine V_if_ne (tgt := 11) dX0_text_1 (by decide) (fun _ => ?_) (fun c1 => absurd c1 nI1_0)
  refine V_aload_n dX0_text_11 rfl ?_
  refine V_getf (i := 2) k_X0 dX0_text_12 (by decide) q229 (wX_obj _) rfl ?_
  exact V_areturn dX0_text_15 rfl (.inl ⟨_, rfl⟩) (.inr ⟨_, rfl⟩) hQ
theorem x_readT0 (l : Launch) {T X : xSt} (h : XT T X) : Cz l yX1_read (ws_ yX1_read cX1_read 1 (some .int)) 13 (rct 0 X) (rst 0 X) (gF 0 X) [.ref 64] X (fun r X' => ∃ x, r = some (.int x) ∧ x = (partsF0 T).1 ∧ XT T X' ∧ X' 47 0 = nI 1 ∧ WR0 X X') := by
  have e01 : (partsF0 X).1 = (partsF0 T).1 := (partsF0_e (h.2.1 0 (by omega)) (h.2.1 1 (by omega))).1
  rcases h.2.2.2.2.2.2.1 with z | z
  · rw [show rct 0 X = 0 from if_pos z.1, show rst 0 X = 0 from if_pos z.1]
    exact Cz_q (x_readf0 l z.1) ⟨_, rfl, (h.2.2.2.2.2.2.2.2.1 z.1).trans e01, h, z.1, WR0.rf X⟩
  · have hne : ¬ X 47 0 = nI 1 := by rw [z.1]; decide +kernel
    rw [show rct 0 X = 100 from if_neg hne, show rst 0 X = 700 from if_neg hne]
    refine Cz_imp (x_readu0 l h.1 z.1) (fun n hn => ⟨hne, hn⟩) fun r X' ⟨x, e1, Y, e3, e4⟩ => ?_
    subst e4
    have h2 := XT_rd0 h z.1 e3
    have h3 : rdn 0 x Y 47 0 = nI 1 := mwr_s _ _ _ _
    exact ⟨x, e1, e3.1.trans e01, h2, h3, rdn0_wr e3.2.2.2.2.2.2 z.1⟩
theorem x_readT1 (l : Launch) {T X : xSt} (h : XT T X) : Cz l yX1_read (ws_ yX1_read cX1_read 1 (some .int)) 13 (rct 1 X) (rst 1 X) (gF 1 X) [.ref 65] X (fun r X' => ∃ x, r = some (.int x) ∧ x = (partsF1 T).1 ∧ XT T X' ∧ X' 47 1 = nI 1 ∧ WR1 X X') := by
  have e01 : (partsF1 X).1 = (partsF1 T).1 := (partsF1_e (h.2.1 0 (by omega)) (h.2.1 1 (by omega))).1
  rcases h.2.2.2.2.2.2.2.1 with z | z
  · rw [show rct 1 X = 0 from if_pos z.1, show rst 1 X = 0 from if_pos z.1]
    exact Cz_q (x_readf1 l z.1) ⟨_, rfl, (h.2.2.2.2.2.2.2.2.2 z.1).trans e01, h, z.1, WR1.rf X⟩
  · have hne : ¬ X 47 1 = nI 1 := by rw [z.1]; decide +kernel
    rw [show rct 1 X = 100 from if_neg hne, show rst 1 X = 700 from if_neg hne]
    refine Cz_imp (x_readu1 l h.1 z.1) (fun n hn => ⟨hne, hn⟩) fun r X' ⟨x, e1, Y, e3, e4⟩ => ?_
    subst e4
    have h2 := XT_rd1 h z.1 e3
    have h3 : rdn 1 x Y 47 1 = nI 1 := mwr_s _ _ _ _
    exact ⟨x, e1, e3.1.trans e01, h2, h3, rdn1_wr e3.2.2.2.2.2.2 z.1⟩
theorem flt_0 (G : xSt) : (partsF0 (asToldF G)).1 = (partsF0 G).1 := (partsF0_e (told_c G).1 (told_c G).2).1
theorem flt_1 (G : xSt) : (partsF1 (asToldF G)).1 = (partsF1 (partsF0 G).2).1 := (partsF1_e ((told_c G).1.trans (p0_c G).1.symm) ((told_c G).2.trans (p0_c G).2.symm)).1
set_option maxHeartbeats 400000 in
theorem x_fault (l : Launch) {G X : xSt} (h : XR G X) (t : Int32) : Cx l yX0_fault (ws_ yX0_fault cX0_fault 2 (some .int)) 16 [.ref 0, .int t] X (fun r X' => ∃ x, r = some (.int x) ∧ x = (faultF t G).1 ∧ XR G X') := by
  refine Cz_start (ls := [some (.ref 0), some (.int t)]) (by decide) rfl (Nat.le_of_ble_eq_true rfl) fF_lo ?_
  intro Q hQ
  have L0 : ∀ (e : t = nI 0), V l (yX0_fault.cls, cX0_fault, 2, (some .int), [], yX0_fault.name) (rmD 16 (rc X) (rs X), fF X, Q, xX0) 7 [some (.ref 0), some (.int t)] [] (wX X) (rc X) (rs X) := by
    intro e
    subst e
    refine V_aload_n dX0_fault_7 rfl ?_
    refine V_iload_n dX0_fault_8 rfl ?_
    refine Vq_v (x_text0 l X) dX0_fault_9 (lw_V q311 q313 qs0 q95 q314) hv_X0_text (by decide) (wX_obj _) cl_X0 rfl rfl (Nat.le_of_ble_eq_true rfl) ?_
    refine Vz_uI (k' := rct 1 X) (n' := rst 1 X) (x_readT0 l h.1.1) dX0_fault_12 (lw_U q345 q347 q349 q346 q96 q350) rfl hs_X1_read (by decide) (.inl ⟨_, _, _, _, (wX_tx0 _), cl_X2, rfl⟩) rfl (Nat.le_of_ble_eq_true rfl) (gF_fF (by decide)) (okl_c (ok_r (gF_ok (by decide))) (okl_c ok_i okl_0)) oks_0 ⟨Nat.le_refl _, Nat.le_refl _⟩ (fun x2 X2 h2 => ?_)
    obtain ⟨ex, h3, h4, h5⟩ := h2
    rw [flt_0] at ex
    refine V_goto (tgt := 20) dX0_fault_15 (by decide) ?_
    exact V_ireturn dX0_fault_20 rfl (hQ _ _ ⟨_, rfl, ⟨by unfold faultF; rw [if_pos in_01.1, if_pos (show nI 0 = 0 from rfl)]; exact ex, XR_W0 h h3 h5 h4⟩⟩)
  have L1 : ∀ (e : t = nI 1), V l (yX0_fault.cls, cX0_fault, 2, (some .int), [], yX0_fault.name) (rmD 16 (rc X) (rs X), fF X, Q, xX0) 7 [some (.ref 0), some (.int t)] [] (wX X) (rc X) (rs X) := by
    intro e
    subst e
    refine V_aload_n dX0_fault_7 rfl ?_
    refine V_iload_n dX0_fault_8 rfl ?_
    refine Vq_v (x_text1 l X) dX0_fault_9 (lw_V q311 q313 qs0 q95 q314) hv_X0_text (by decide) (wX_obj _) cl_X0 rfl rfl (Nat.le_of_ble_eq_true rfl) ?_
    refine Vz_uI (k' := rct 0 X) (n' := rst 0 X) (x_readT1 l h.1.1) dX0_fault_12 (lw_U q345 q347 q348 q346 q96 q350) rfl hs_X1_read (by decide) (.inl ⟨_, _, _, _, (wX_tx1 _), cl_X3, rfl⟩) rfl (Nat.le_of_ble_eq_true rfl) (gF_fF (by decide)) (okl_c (ok_r (gF_ok (by decide))) (okl_c ok_i okl_0)) oks_0 ⟨Nat.le_of_eq (Nat.add_comm _ _), Nat.le_of_eq (Nat.add_comm _ _)⟩ (fun x2 X2 h2 => ?_)
    obtain ⟨ex, h3, h4, h5⟩ := h2
    rw [flt_1] at ex
    refine V_goto (tgt := 20) dX0_fault_15 (by decide) ?_
    exact V_ireturn dX0_fault_20 rfl (hQ _ _ ⟨_, rfl, ⟨by unfold faultF; rw [if_pos in_01.2, if_neg nI1_0]; exact ex, XR_W1 h h3 h5 h4⟩⟩)
  refine V_iload_n dX0_fault_0 rfl ?_
  refine Vs_callIF (s_isTwo l _) dX0_fault_1 (lw_S q304 q305 q95 q306) hs_X0_isTwo (by decide) rfl (Nat.le_of_ble_eq_true rfl) ?_
  refine V_if_eqB (tgt := 18) dX0_fault_4 (by decide) (fun c4 => ?_) (fun c4 => ?_)
  · refine V_bipush dX0_fault_18 lb_m2 ?_
    exact V_ireturn dX0_fault_20 rfl (hQ _ _ ⟨_, rfl, ⟨by unfold faultF; rw [if_neg c4], h⟩⟩)
  · exact (two_cases c4).elim L0 L1
theorem tx_c0 {G X : xSt} (h : XY G X) : X 0 0 = G 0 0 ∧ X 1 = G 1 := ⟨congrFun (h.2.1 0 (by unfold cj; omega)) 0, h.2.1 1 (by unfold cj; omega)⟩
theorem XY_typ0 {G X : xSt} (h : XY G X) {b : Int32} (hb : bd b 255) : (typX 0 b X).1 = (typeT 0 b G).1 ∧ XY (typeT 0 b G).2 (typX 0 b X).2 := by
  obtain ⟨m, hm, e⟩ := h.1.2.2.1
  have eg := (tx_c0 h).1
  unfold typX typeT
  rw [← eg]
  by_cases c : X 0 0 = capI 0
  · rw [if_pos c, if_pos c]; exact ⟨rfl, h⟩
  · rw [if_neg c, if_neg c]
    have hm2 : m < 23 := Nat.lt_of_le_of_ne hm (fun z => c (by rw [e, z]; rfl))
    refine ⟨rfl, XY_tx0 h (k := vN (X 0 0)) (by rw [e, vN_nI (by omega)]; omega) hb ⟨m + 1, by omega, by rw [e]; exact nI_add _ _⟩⟩
theorem XY_wr0 {G X : xSt} (h : XY G X) {v : Int32} (hv : bd v 23) : XY (mwr G 0 0 v) (mwr (mwr X 0 0 v) 47 0 (nI 0)) := by
  have z := XY_tx0 h (k := 0) (v := v) (b := G 1 (49 * 0 + 0)) (by decide) (by rw [← (tx_c0 h).2]; exact h.1.2.2.2.2.1 _ (by decide)) hv
  rw [mwr_self G, mwr_eq (show X 1 (49 * 0 + 0) = G 1 (49 * 0 + 0) by rw [(tx_c0 h).2])] at z
  exact z
theorem XY_und0 {G X : xSt} (h : XY G X) : (undX 0 X).1 = (undoT 0 G).1 ∧ XY (undoT 0 G).2 (undX 0 X).2 := by
  obtain ⟨m, hm, e⟩ := h.1.2.2.1
  have eg := (tx_c0 h).1
  unfold undX undoT
  rw [← eg]
  by_cases c : X 0 0 = 0
  · rw [if_pos c, if_pos c]; exact ⟨rfl, h⟩
  · rw [if_neg c, if_neg c]
    have hm2 : 1 ≤ m := Nat.one_le_iff_ne_zero.mpr (fun z => c (by rw [e, z]; rfl))
    exact ⟨rfl, XY_wr0 h ⟨m - 1, by omega, by rw [e]; exact pk_sub hm2⟩⟩
theorem tx_c1 {G X : xSt} (h : XY G X) : X 0 1 = G 0 1 ∧ X 1 = G 1 := ⟨congrFun (h.2.1 0 (by unfold cj; omega)) 1, h.2.1 1 (by unfold cj; omega)⟩
theorem XY_typ1 {G X : xSt} (h : XY G X) {b : Int32} (hb : bd b 255) : (typX 1 b X).1 = (typeT 1 b G).1 ∧ XY (typeT 1 b G).2 (typX 1 b X).2 := by
  obtain ⟨m, hm, e⟩ := h.1.2.2.2.1
  have eg := (tx_c1 h).1
  unfold typX typeT
  rw [← eg]
  by_cases c : X 0 1 = capI 1
  · rw [if_pos c, if_pos c]; exact ⟨rfl, h⟩
  · rw [if_neg c, if_neg c]
    have hm2 : m < 49 := Nat.lt_of_le_of_ne hm (fun z => c (by rw [e, z]; rfl))
    refine ⟨rfl, XY_tx1 h (k := vN (X 0 1)) (by rw [e, vN_nI (by omega)]; omega) hb ⟨m + 1, by omega, by rw [e]; exact nI_add _ _⟩⟩
theorem XY_wr1 {G X : xSt} (h : XY G X) {v : Int32} (hv : bd v 49) : XY (mwr G 0 1 v) (mwr (mwr X 0 1 v) 47 1 (nI 0)) := by
  have z := XY_tx1 h (k := 0) (v := v) (b := G 1 (49 * 1 + 0)) (by decide) (by rw [← (tx_c1 h).2]; exact h.1.2.2.2.2.1 _ (by decide)) hv
  rw [mwr_self G, mwr_eq (show X 1 (49 * 1 + 0) = G 1 (49 * 1 + 0) by rw [(tx_c1 h).2])] at z
  exact z
theorem XY_und1 {G X : xSt} (h : XY G X) : (undX 1 X).1 = (undoT 1 G).1 ∧ XY (undoT 1 G).2 (undX 1 X).2 := by
  obtain ⟨m, hm, e⟩ := h.1.2.2.2.1
  have eg := (tx_c1 h).1
  unfold undX undoT
  rw [← eg]
  by_cases c : X 0 1 = 0
  · rw [if_pos c, if_pos c]; exact ⟨rfl, h⟩
  · rw [if_neg c, if_neg c]
    have hm2 : 1 ≤ m := Nat.one_le_iff_ne_zero.mpr (fun z => c (by rw [e, z]; rfl))
    exact ⟨rfl, XY_wr1 h ⟨m - 1, by omega, by rw [e]; exact pk_sub hm2⟩⟩
set_option maxHeartbeats 400000 in
theorem x_type (l : Launch) {G X : xSt} (h : XR G X) (hM : MI G) (t b : Int32) : Cy l yX0_type (ws_ yX0_type cX0_type 3 (some .int)) 2 [.ref 0, .int t, .int b] X (fun r X' => ∃ x, r = some (.int x) ∧ x = (typeF t b G).1 ∧ XR (typeF t b G).2 X') := by
  refine Cz_start (ls := [some (.ref 0), some (.int t), some (.int b)]) (by decide) rfl (Nat.le_of_ble_eq_true rfl) (fun _ _ _ h => h) ?_
  intro Q hQ
  have hy := XR_XY h
  have L0 : ∀ (e : t = nI 0) (hb : nI 0 ≤ b ∧ b ≤ nI 255), V l (yX0_type.cls, cX0_type, 3, (some .int), [], yX0_type.name) (rmD 2 0 0, xF0, Q, xX0) 19 [some (.ref 0), some (.int t), some (.int b)] [] (wX X) 0 0 := by
    intro e hb
    subst e
    have hF : typeF (nI 0) b G = typeT 0 b G := by unfold typeF; rw [if_pos in_01.1, if_pos hb]; rfl
    have z := XY_typ0 hy (bd_I (by decide) hb)
    refine V_aload_n dX0_type_19 rfl ?_
    refine V_iload_n dX0_type_20 rfl ?_
    refine Vq_v (x_text0 l X) dX0_type_21 (lw_V q311 q313 qs0 q95 q314) hv_X0_text (by decide) (wX_obj _) cl_X0 rfl rfl (Nat.le_of_ble_eq_true rfl) ?_
    refine V_iload_n dX0_type_24 rfl ?_
    refine Vz_uI (k' := 0) (n' := 0) (x_type0 l hy.1.2.2.1 b) dX0_type_25 (lw_U q315 q317 q319 q316 q96 q320) rfl hs_X1_type (by decide) (.inl ⟨_, _, _, _, (wX_tx0 _), cl_X2, rfl⟩) rfl (Nat.le_of_ble_eq_true rfl) (fun _ h => h.elim) (fun _ _ => xok0) (fun _ _ => xok0) ⟨Nat.le_refl _, Nat.le_refl _⟩ (fun x2 X2 h2 => ?_)
    obtain ⟨ex, rfl⟩ := h2
    refine V_goto (tgt := 33) dX0_type_28 (by decide) ?_
    exact V_ireturn dX0_type_33 rfl (hQ _ _ ⟨_, rfl, ⟨by rw [hF, ex]; exact z.1, by rw [hF]; exact XY_XR (by rw [← hF]; exact MI_type hM _ _) z.2⟩⟩)
  have L1 : ∀ (e : t = nI 1) (hb : nI 0 ≤ b ∧ b ≤ nI 255), V l (yX0_type.cls, cX0_type, 3, (some .int), [], yX0_type.name) (rmD 2 0 0, xF0, Q, xX0) 19 [some (.ref 0), some (.int t), some (.int b)] [] (wX X) 0 0 := by
    intro e hb
    subst e
    have hF : typeF (nI 1) b G = typeT 1 b G := by unfold typeF; rw [if_pos in_01.2, if_pos hb]; rfl
    have z := XY_typ1 hy (bd_I (by decide) hb)
    refine V_aload_n dX0_type_19 rfl ?_
    refine V_iload_n dX0_type_20 rfl ?_
    refine Vq_v (x_text1 l X) dX0_type_21 (lw_V q311 q313 qs0 q95 q314) hv_X0_text (by decide) (wX_obj _) cl_X0 rfl rfl (Nat.le_of_ble_eq_true rfl) ?_
    refine V_iload_n dX0_type_24 rfl ?_
    refine Vz_uI (k' := 0) (n' := 0) (x_type1 l hy.1.2.2.2.1 b) dX0_type_25 (lw_U q315 q317 q318 q316 q96 q320) rfl hs_X1_type (by decide) (.inl ⟨_, _, _, _, (wX_tx1 _), cl_X3, rfl⟩) rfl (Nat.le_of_ble_eq_true rfl) (fun _ h => h.elim) (fun _ _ => xok0) (fun _ _ => xok0) ⟨Nat.le_refl _, Nat.le_refl _⟩ (fun x2 X2 h2 => ?_)
    obtain ⟨ex, rfl⟩ := h2
    refine V_goto (tgt := 33) dX0_type_28 (by decide) ?_
    exact V_ireturn dX0_type_33 rfl (hQ _ _ ⟨_, rfl, ⟨by rw [hF, ex]; exact z.1, by rw [hF]; exact XY_XR (by rw [← hF]; exact MI_type hM _ _) z.2⟩⟩)
  refine V_iload_n dX0_type_0 rfl ?_
  refine Vs_callIF (s_isTwo l _) dX0_type_1 (lw_S q304 q305 q95 q306) hs_X0_isTwo (by decide) rfl (Nat.le_of_ble_eq_true rfl) ?_
  refine V_if_eqB (tgt := 31) dX0_type_4 (by decide) (fun c4 => ?_) (fun c4 => ?_)
  · refine V_bipush dX0_type_31 lb_m2 ?_
    exact V_ireturn dX0_type_33 rfl (hQ _ _ ⟨_, rfl, ⟨by unfold typeF; rw [if_neg c4], by unfold typeF; rw [if_neg c4]; exact h⟩⟩)
  · refine V_iload_n dX0_type_7 rfl ?_
    refine V_i2l dX0_type_8 rfl ?_
    refine V_lconst (v := 0) dX0_type_9 (by rfl) ?_
    refine V_ldc2 dX0_type_10 q310 ?_
    refine Vs_callIF (s_in l _ _ _) dX0_type_13 (lw_S q307 q308 q95 q309) hs_X0_in (by decide) rfl (Nat.le_of_ble_eq_true rfl) ?_
    refine V_if_eqB (tgt := 31) dX0_type_16 (by decide) (fun c16 => ?_) (fun c16 => ?_)
    · have c16b : ¬ (nI 0 ≤ b ∧ b ≤ nI 255) := by rw [l64_0, l64_255] at c16; exact fun z => c16 ((i64_in _ _ _).mpr z)
      refine V_bipush dX0_type_31 lb_m2 ?_
      exact V_ireturn dX0_type_33 rfl (hQ _ _ ⟨_, rfl, ⟨by unfold typeF; rw [if_pos c4, if_neg c16b], by unfold typeF; rw [if_pos c4, if_neg c16b]; exact h⟩⟩)
    · have c16b : nI 0 ≤ b ∧ b ≤ nI 255 := by rw [l64_0, l64_255] at c16; exact (i64_in _ _ _).mp c16
      exact (two_cases c4).elim (fun e => L0 e c16b) (fun e => L1 e c16b)
set_option maxHeartbeats 400000 in
theorem x_wipe (l : Launch) {G X : xSt} (h : XR G X) (hM : MI G) (t : Int32) : Cy l yX0_wipe (ws_ yX0_wipe cX0_wipe 2 (some .int)) 2 [.ref 0, .int t] X (fun r X' => ∃ x, r = some (.int x) ∧ x = (wipeF t G).1 ∧ XR (wipeF t G).2 X') := by
  refine Cz_start (ls := [some (.ref 0), some (.int t)]) (by decide) rfl (Nat.le_of_ble_eq_true rfl) (fun _ _ _ h => h) ?_
  intro Q hQ
  have hy := XR_XY h
  have L0 : ∀ (e : t = nI 0), V l (yX0_wipe.cls, cX0_wipe, 2, (some .int), [], yX0_wipe.name) (rmD 2 0 0, xF0, Q, xX0) 7 [some (.ref 0), some (.int t)] [] (wX X) 0 0 := by
    intro e
    subst e
    have hF : wipeF (nI 0) G = (G 0 0, mwr G 0 0 (nI 0)) := by unfold wipeF; rw [if_pos in_01.1]; rfl
    have z : XY (mwr G 0 0 (nI 0)) (wipX 0 X) := XY_wr0 hy (bd_n (Nat.zero_le _))
    refine V_aload_n dX0_wipe_7 rfl ?_
    refine V_iload_n dX0_wipe_8 rfl ?_
    refine Vq_v (x_text0 l X) dX0_wipe_9 (lw_V q311 q313 qs0 q95 q314) hv_X0_text (by decide) (wX_obj _) cl_X0 rfl rfl (Nat.le_of_ble_eq_true rfl) ?_
    refine Vz_uI (k' := 0) (n' := 0) (x_wipe0 l) dX0_wipe_12 (lw_U q325 q327 q329 q326 q96 q330) rfl hs_X1_wipe (by decide) (.inl ⟨_, _, _, _, (wX_tx0 _), cl_X2, rfl⟩) rfl (Nat.le_of_ble_eq_true rfl) (fun _ h => h.elim) (fun _ _ => xok0) (fun _ _ => xok0) ⟨Nat.le_refl _, Nat.le_refl _⟩ (fun x2 X2 h2 => ?_)
    obtain ⟨ex, rfl⟩ := h2
    refine V_goto (tgt := 20) dX0_wipe_15 (by decide) ?_
    exact V_ireturn dX0_wipe_20 rfl (hQ _ _ ⟨_, rfl, ⟨by rw [hF, ex]; exact (tx_c0 hy).1, by rw [hF]; exact XY_XR (by have w := MI_wipe hM (nI 0); rw [hF] at w; exact w) z⟩⟩)
  have L1 : ∀ (e : t = nI 1), V l (yX0_wipe.cls, cX0_wipe, 2, (some .int), [], yX0_wipe.name) (rmD 2 0 0, xF0, Q, xX0) 7 [some (.ref 0), some (.int t)] [] (wX X) 0 0 := by
    intro e
    subst e
    have hF : wipeF (nI 1) G = (G 0 1, mwr G 0 1 (nI 0)) := by unfold wipeF; rw [if_pos in_01.2]; rfl
    have z : XY (mwr G 0 1 (nI 0)) (wipX 1 X) := XY_wr1 hy (bd_n (Nat.zero_le _))
    refine V_aload_n dX0_wipe_7 rfl ?_
    refine V_iload_n dX0_wipe_8 rfl ?_
    refine Vq_v (x_text1 l X) dX0_wipe_9 (lw_V q311 q313 qs0 q95 q314) hv_X0_text (by decide) (wX_obj _) cl_X0 rfl rfl (Nat.le_of_ble_eq_true rfl) ?_
    refine Vz_uI (k' := 0) (n' := 0) (x_wipe1 l) dX0_wipe_12 (lw_U q325 q327 q328 q326 q96 q330) rfl hs_X1_wipe (by decide) (.inl ⟨_, _, _, _, (wX_tx1 _), cl_X3, rfl⟩) rfl (Nat.le_of_ble_eq_true rfl) (fun _ h => h.elim) (fun _ _ => xok0) (fun _ _ => xok0) ⟨Nat.le_refl _, Nat.le_refl _⟩ (fun x2 X2 h2 => ?_)
    obtain ⟨ex, rfl⟩ := h2
    refine V_goto (tgt := 20) dX0_wipe_15 (by decide) ?_
    exact V_ireturn dX0_wipe_20 rfl (hQ _ _ ⟨_, rfl, ⟨by rw [hF, ex]; exact (tx_c1 hy).1, by rw [hF]; exact XY_XR (by have w := MI_wipe hM (nI 1); rw [hF] at w; exact w) z⟩⟩)
  refine V_iload_n dX0_wipe_0 rfl ?_
  refine Vs_callIF (s_isTwo l _) dX0_wipe_1 (lw_S q304 q305 q95 q306) hs_X0_isTwo (by decide) rfl (Nat.le_of_ble_eq_true rfl) ?_
  refine V_if_eqB (tgt := 18) dX0_wipe_4 (by decide) (fun c4 => ?_) (fun c4 => ?_)
  · refine V_bipush dX0_wipe_18 lb_m2 ?_
    exact V_ireturn dX0_wipe_20 rfl (hQ _ _ ⟨_, rfl, ⟨by unfold wipeF; rw [if_neg c4], by unfold wipeF; rw [if_neg c4]; exact h⟩⟩)
  · exact (two_cases c4).elim L0 L1
set_option maxHeartbeats 400000 in
theorem x_undo (l : Launch) {G X : xSt} (h : XR G X) (hM : MI G) (t : Int32) : Cy l yX0_undo (ws_ yX0_undo cX0_undo 2 (some .int)) 2 [.ref 0, .int t] X (fun r X' => ∃ x, r = some (.int x) ∧ x = (undoF t G).1 ∧ XR (undoF t G).2 X') := by
  refine Cz_start (ls := [some (.ref 0), some (.int t)]) (by decide) rfl (Nat.le_of_ble_eq_true rfl) (fun _ _ _ h => h) ?_
  intro Q hQ
  have hy := XR_XY h
  have L0 : ∀ (e : t = nI 0), V l (yX0_undo.cls, cX0_undo, 2, (some .int), [], yX0_undo.name) (rmD 2 0 0, xF0, Q, xX0) 7 [some (.ref 0), some (.int t)] [] (wX X) 0 0 := by
    intro e
    subst e
    have hF : undoF (nI 0) G = undoT 0 G := by unfold undoF; rw [if_pos in_01.1]; rfl
    have z := XY_und0 hy
    refine V_aload_n dX0_undo_7 rfl ?_
    refine V_iload_n dX0_undo_8 rfl ?_
    refine Vq_v (x_text0 l X) dX0_undo_9 (lw_V q311 q313 qs0 q95 q314) hv_X0_text (by decide) (wX_obj _) cl_X0 rfl rfl (Nat.le_of_ble_eq_true rfl) ?_
    refine Vz_uI (k' := 0) (n' := 0) (x_undo0 l) dX0_undo_12 (lw_U q335 q337 q339 q336 q96 q340) rfl hs_X1_undo (by decide) (.inl ⟨_, _, _, _, (wX_tx0 _), cl_X2, rfl⟩) rfl (Nat.le_of_ble_eq_true rfl) (fun _ h => h.elim) (fun _ _ => xok0) (fun _ _ => xok0) ⟨Nat.le_refl _, Nat.le_refl _⟩ (fun x2 X2 h2 => ?_)
    obtain ⟨ex, rfl⟩ := h2
    refine V_goto (tgt := 20) dX0_undo_15 (by decide) ?_
    exact V_ireturn dX0_undo_20 rfl (hQ _ _ ⟨_, rfl, ⟨by rw [hF, ex]; exact z.1, by rw [hF]; exact XY_XR (by rw [← hF]; exact MI_undo hM _) z.2⟩⟩)
  have L1 : ∀ (e : t = nI 1), V l (yX0_undo.cls, cX0_undo, 2, (some .int), [], yX0_undo.name) (rmD 2 0 0, xF0, Q, xX0) 7 [some (.ref 0), some (.int t)] [] (wX X) 0 0 := by
    intro e
    subst e
    have hF : undoF (nI 1) G = undoT 1 G := by unfold undoF; rw [if_pos in_01.2]; rfl
    have z := XY_und1 hy
    refine V_aload_n dX0_undo_7 rfl ?_
    refine V_iload_n dX0_undo_8 rfl ?_
    refine Vq_v (x_text1 l X) dX0_undo_9 (lw_V q311 q313 qs0 q95 q314) hv_X0_text (by decide) (wX_obj _) cl_X0 rfl rfl (Nat.le_of_ble_eq_true rfl) ?_
    refine Vz_uI (k' := 0) (n' := 0) (x_undo1 l) dX0_undo_12 (lw_U q335 q337 q338 q336 q96 q340) rfl hs_X1_undo (by decide) (.inl ⟨_, _, _, _, (wX_tx1 _), cl_X3, rfl⟩) rfl (Nat.le_of_ble_eq_true rfl) (fun _ h => h.elim) (fun _ _ => xok0) (fun _ _ => xok0) ⟨Nat.le_refl _, Nat.le_refl _⟩ (fun x2 X2 h2 => ?_)
    obtain ⟨ex, rfl⟩ := h2
    refine V_goto (tgt := 20) dX0_undo_15 (by decide) ?_
    exact V_ireturn dX0_undo_20 rfl (hQ _ _ ⟨_, rfl, ⟨by rw [hF, ex]; exact z.1, by rw [hF]; exact XY_XR (by rw [← hF]; exact MI_undo hM _) z.2⟩⟩)
  refine V_iload_n dX0_undo_0 rfl ?_
  refine Vs_callIF (s_isTwo l _) dX0_undo_1 (lw_S q304 q305 q95 q306) hs_X0_isTwo (by decide) rfl (Nat.le_of_ble_eq_true rfl) ?_
  refine V_if_eqB (tgt := 18) dX0_undo_4 (by decide) (fun c4 => ?_) (fun c4 => ?_)
  · refine V_bipush dX0_undo_18 lb_m2 ?_
    exact V_ireturn dX0_undo_20 rfl (hQ _ _ ⟨_, rfl, ⟨by unfold undoF; rw [if_neg c4], by unfold undoF; rw [if_neg c4]; exact h⟩⟩)
  · exact (two_cases c4).elim L0 L1
set_option maxHeartbeats 400000 in
theorem x_count (l : Launch) {G X : xSt} (h : XR G X) (hM : MI G) (what : Int32) : Cx l yX0_count (ws_ yX0_count cX0_count 2 (some .int)) 17 [.ref 0, .int what] X (fun r X' => ∃ x, r = some (.int x) ∧ x = (countP what G).1 ∧ XR G X') := by
  refine Cz_start (ls := [some (.ref 0), some (.int what)]) (by decide) rfl (Nat.le_of_ble_eq_true rfl) fF_lo ?_
  intro Q hQ
  have hy := XR_XY h
  have hl := hy.1.2.1
  rcases in9 what with ⟨k, hk, rfl⟩ | ⟨ho, hne⟩
  · match k, hk with
    | 0, _ =>
      refine V_iload_n dX0_count_0 rfl ?_
      refine V_tableIn (off := 51) (tgt := 52) dX0_count_1 (by decide +kernel) (by decide +kernel) (by decide +kernel) (by decide) ?_
      refine V_aload_n dX0_count_52 rfl ?_
      refine V_iload_n dX0_count_53 rfl ?_
      refine Vq_v (x_text0 l X) dX0_count_54 (lw_V q311 q313 qs0 q95 q314) hv_X0_text (by decide) (wX_obj _) cl_X0 rfl rfl (Nat.le_of_ble_eq_true rfl) ?_
      refine Vz_uI (k' := rct 1 X) (n' := rst 1 X) (x_manyT0 l h.1.1) dX0_count_57 (lw_U q1132 q1690 q1692 q662 q96 q663) rfl hs_X1_many (by decide) (.inl ⟨_, _, _, _, (wX_tx0 _), cl_X2, rfl⟩) rfl (Nat.le_of_ble_eq_true rfl) (gF_fF (by decide)) (okl_c (ok_r (gF_ok (by decide))) (okl_c ok_i okl_0)) oks_0 ⟨Nat.le_refl _, Nat.le_refl _⟩ (fun x2 X2 h2 => ?_)
      obtain ⟨ex, h3, h4, h5⟩ := h2
      rw [asToldF_p G (by decide)] at ex
      exact V_ireturn dX0_count_60 rfl (hQ _ _ ⟨_, rfl, ⟨by unfold countP; rw [if_pos rfl]; unfold sumP; rw [if_pos (show nI 0 = 0 from rfl)]; exact ex, XR_W0 h h3 h5 h4⟩⟩)
    | 1, _ =>
      refine V_iload_n dX0_count_0 rfl ?_
      refine V_tableIn (off := 51) (tgt := 52) dX0_count_1 (by decide +kernel) (by decide +kernel) (by decide +kernel) (by decide) ?_
      refine V_aload_n dX0_count_52 rfl ?_
      refine V_iload_n dX0_count_53 rfl ?_
      refine Vq_v (x_text1 l X) dX0_count_54 (lw_V q311 q313 qs0 q95 q314) hv_X0_text (by decide) (wX_obj _) cl_X0 rfl rfl (Nat.le_of_ble_eq_true rfl) ?_
      refine Vz_uI (k' := rct 0 X) (n' := rst 0 X) (x_manyT1 l h.1.1) dX0_count_57 (lw_U q1132 q1690 q1691 q662 q96 q663) rfl hs_X1_many (by decide) (.inl ⟨_, _, _, _, (wX_tx1 _), cl_X3, rfl⟩) rfl (Nat.le_of_ble_eq_true rfl) (gF_fF (by decide)) (okl_c (ok_r (gF_ok (by decide))) (okl_c ok_i okl_0)) oks_0 ⟨Nat.le_of_eq (Nat.add_comm _ _), Nat.le_of_eq (Nat.add_comm _ _)⟩ (fun x2 X2 h2 => ?_)
      obtain ⟨ex, h3, h4, h5⟩ := h2
      rw [asToldF_p G (by decide)] at ex
      exact V_ireturn dX0_count_60 rfl (hQ _ _ ⟨_, rfl, ⟨by unfold countP; rw [if_neg (show ¬ nI 1 = nI 0 by decide +kernel), if_pos rfl]; unfold sumP; rw [if_neg nI1_0]; exact ex, XR_W1 h h3 h5 h4⟩⟩)
    | 2, _ =>
      refine V_iload_n dX0_count_0 rfl ?_
      refine V_tableIn (off := 60) (tgt := 61) dX0_count_1 (by decide +kernel) (by decide +kernel) (by decide +kernel) (by decide) ?_
      refine V_aload_n dX0_count_61 rfl ?_
      refine V_iload_n dX0_count_62 rfl ?_
      refine V_iconst dX0_count_63 li_2 ?_
      refine V_isubN dX0_count_64 (by omega) ?_
      refine V_topi (show nI 2 - nI 2 = nI 0 from by decide +kernel) ?_
      refine Vq_v (x_text0 l X) dX0_count_65 (lw_V q311 q313 qs0 q95 q314) hv_X0_text (by decide) (wX_obj _) cl_X0 rfl rfl (Nat.le_of_ble_eq_true rfl) ?_
      refine Vq_u (x_length0 l X) dX0_count_68 (lw_U q1133 q1135 q1137 q1134 q96 q1138) rfl hs_X1_length (by decide) (.inl ⟨_, _, _, _, (wX_tx0 _), cl_X2, rfl⟩) rfl (Nat.le_of_ble_eq_true rfl) ?_
      exact V_ireturn dX0_count_71 rfl (hQ _ _ ⟨_, rfl, ⟨by unfold countP; rw [if_neg (show ¬ nI 2 = nI 0 by decide +kernel), if_neg (show ¬ nI 2 = nI 1 by decide +kernel), if_pos rfl]; exact (tx_c0 hy).1, h⟩⟩)
    | 3, _ =>
      refine V_iload_n dX0_count_0 rfl ?_
      refine V_tableIn (off := 60) (tgt := 61) dX0_count_1 (by decide +kernel) (by decide +kernel) (by decide +kernel) (by decide) ?_
      refine V_aload_n dX0_count_61 rfl ?_
      refine V_iload_n dX0_count_62 rfl ?_
      refine V_iconst dX0_count_63 li_2 ?_
      refine V_isubN dX0_count_64 (by omega) ?_
      refine V_topi (show nI 3 - nI 2 = nI 1 from by decide +kernel) ?_
      refine Vq_v (x_text1 l X) dX0_count_65 (lw_V q311 q313 qs0 q95 q314) hv_X0_text (by decide) (wX_obj _) cl_X0 rfl rfl (Nat.le_of_ble_eq_true rfl) ?_
      refine Vq_u (x_length1 l X) dX0_count_68 (lw_U q1133 q1135 q1136 q1134 q96 q1138) rfl hs_X1_length (by decide) (.inl ⟨_, _, _, _, (wX_tx1 _), cl_X3, rfl⟩) rfl (Nat.le_of_ble_eq_true rfl) ?_
      exact V_ireturn dX0_count_71 rfl (hQ _ _ ⟨_, rfl, ⟨by unfold countP; rw [if_neg (show ¬ nI 3 = nI 0 by decide +kernel), if_neg (show ¬ nI 3 = nI 1 by decide +kernel), if_neg (show ¬ nI 3 = nI 2 by decide +kernel), if_pos rfl]; exact (tx_c1 hy).1, h⟩⟩)
    | 4, _ =>
      refine V_iload_n dX0_count_0 rfl ?_
      refine V_tableIn (off := 71) (tgt := 72) dX0_count_1 (by decide +kernel) (by decide +kernel) (by decide +kernel) (by decide) ?_
      refine V_aload_n dX0_count_72 rfl ?_
      refine V_getf (i := 3) k_X0 dX0_count_73 (by decide) q230 (wX_obj _) rfl ?_
      refine V_size (q := 2) (hl 2 (by decide)) dX0_count_76 (lw_V q725 q365 q366 q100 q367) (Nat.le_of_ble_eq_true rfl) (by decide) ?_
      exact V_ireturn dX0_count_79 rfl (hQ _ _ ⟨_, rfl, ⟨by unfold countP; rw [if_neg (show ¬ nI 4 = nI 0 by decide +kernel), if_neg (show ¬ nI 4 = nI 1 by decide +kernel), if_neg (show ¬ nI 4 = nI 2 by decide +kernel), if_neg (show ¬ nI 4 = nI 3 by decide +kernel), if_pos rfl]; exact ((hl 2 (by decide)).2.1.symm).trans (hy.2.2.1), h⟩⟩)
    | 5, _ =>
      refine V_iload_n dX0_count_0 rfl ?_
      refine V_tableIn (off := 79) (tgt := 80) dX0_count_1 (by decide +kernel) (by decide +kernel) (by decide +kernel) (by decide) ?_
      refine V_aload_n dX0_count_80 rfl ?_
      refine V_getf (i := 4) k_X0 dX0_count_81 (by decide) q231 (wX_obj _) rfl ?_
      refine V_size (q := 3) (hl 3 (by decide)) dX0_count_84 (lw_V q725 q365 q366 q100 q367) (Nat.le_of_ble_eq_true rfl) (by decide) ?_
      exact V_ireturn dX0_count_87 rfl (hQ _ _ ⟨_, rfl, ⟨by unfold countP; rw [if_neg (show ¬ nI 5 = nI 0 by decide +kernel), if_neg (show ¬ nI 5 = nI 1 by decide +kernel), if_neg (show ¬ nI 5 = nI 2 by decide +kernel), if_neg (show ¬ nI 5 = nI 3 by decide +kernel), if_neg (show ¬ nI 5 = nI 4 by decide +kernel), if_pos rfl]; exact ((hl 3 (by decide)).2.1.symm).trans (congrFun (hy.2.1 13 (by unfold cj; omega)) 0), h⟩⟩)
    | 6, _ =>
      refine V_iload_n dX0_count_0 rfl ?_
      refine V_tableIn (off := 87) (tgt := 88) dX0_count_1 (by decide +kernel) (by decide +kernel) (by decide +kernel) (by decide) ?_
      refine V_aload_n dX0_count_88 rfl ?_
      refine V_getf (i := 5) k_X0 dX0_count_89 (by decide) q232 (wX_obj _) rfl ?_
      refine V_size (q := 4) (hl 4 (by decide)) dX0_count_92 (lw_V q725 q365 q366 q100 q367) (Nat.le_of_ble_eq_true rfl) (by decide) ?_
      exact V_ireturn dX0_count_95 rfl (hQ _ _ ⟨_, rfl, ⟨by unfold countP; rw [if_neg (show ¬ nI 6 = nI 0 by decide +kernel), if_neg (show ¬ nI 6 = nI 1 by decide +kernel), if_neg (show ¬ nI 6 = nI 2 by decide +kernel), if_neg (show ¬ nI 6 = nI 3 by decide +kernel), if_neg (show ¬ nI 6 = nI 4 by decide +kernel), if_neg (show ¬ nI 6 = nI 5 by decide +kernel), if_pos rfl]; exact ((hl 4 (by decide)).2.1.symm).trans (congrFun (hy.2.1 17 (by unfold cj; omega)) 0), h⟩⟩)
    | 7, _ =>
      refine V_iload_n dX0_count_0 rfl ?_
      refine V_tableIn (off := 95) (tgt := 96) dX0_count_1 (by decide +kernel) (by decide +kernel) (by decide +kernel) (by decide) ?_
      refine V_aload_n dX0_count_96 rfl ?_
      refine V_getf (i := 18) k_X0 dX0_count_97 (by decide) q245 (wX_obj _) rfl ?_
      refine V_size (q := 5) (hl 5 (by decide)) dX0_count_100 (lw_V q725 q365 q366 q100 q367) (Nat.le_of_ble_eq_true rfl) (by decide) ?_
      exact V_ireturn dX0_count_103 rfl (hQ _ _ ⟨_, rfl, ⟨by unfold countP; rw [if_neg (show ¬ nI 7 = nI 0 by decide +kernel), if_neg (show ¬ nI 7 = nI 1 by decide +kernel), if_neg (show ¬ nI 7 = nI 2 by decide +kernel), if_neg (show ¬ nI 7 = nI 3 by decide +kernel), if_neg (show ¬ nI 7 = nI 4 by decide +kernel), if_neg (show ¬ nI 7 = nI 5 by decide +kernel), if_neg (show ¬ nI 7 = nI 6 by decide +kernel), if_pos rfl]; exact ((hl 5 (by decide)).2.1.symm).trans (congrFun (hy.2.1 34 (by unfold cj; omega)) 0), h⟩⟩)
    | 8, _ =>
      refine V_iload_n dX0_count_0 rfl ?_
      refine V_tableIn (off := 103) (tgt := 104) dX0_count_1 (by decide +kernel) (by decide +kernel) (by decide +kernel) (by decide) ?_
      refine V_aload_n dX0_count_104 rfl ?_
      refine V_getf (i := 0) k_X0 dX0_count_105 (by decide) q227 (wX_obj _) rfl ?_
      exact V_ireturn dX0_count_108 rfl (hQ _ _ ⟨_, rfl, ⟨by unfold countP; rw [if_neg (show ¬ nI 8 = nI 0 by decide +kernel), if_neg (show ¬ nI 8 = nI 1 by decide +kernel), if_neg (show ¬ nI 8 = nI 2 by decide +kernel), if_neg (show ¬ nI 8 = nI 3 by decide +kernel), if_neg (show ¬ nI 8 = nI 4 by decide +kernel), if_neg (show ¬ nI 8 = nI 5 by decide +kernel), if_neg (show ¬ nI 8 = nI 6 by decide +kernel), if_neg (show ¬ nI 8 = nI 7 by decide +kernel), if_pos rfl]; exact congrFun (hy.2.1 44 (by unfold cj; omega)) 0, h⟩⟩)
  · refine V_iload_n dX0_count_0 rfl ?_
    refine V_tableOut (tgt := 109) dX0_count_1 ho (by decide) ?_
    refine V_bipush dX0_count_109 lb_m2 ?_
    exact V_ireturn dX0_count_111 rfl (hQ _ _ ⟨_, rfl, ⟨by unfold countP; rw [if_neg (hne 0 (by decide)), if_neg (hne 1 (by decide)), if_neg (hne 2 (by decide)), if_neg (hne 3 (by decide)), if_neg (hne 4 (by decide)), if_neg (hne 5 (by decide)), if_neg (hne 6 (by decide)), if_neg (hne 7 (by decide)), if_neg (hne 8 (by decide))], h⟩⟩)
