/-! PromiseTailor's side: read, write -/
set_option maxRecDepth 100000
theorem nI_p1 {n : Nat} (h : n < 1000) : ¬ nI (n + 1) ≤ 0 := fun z => by
  have := (nI_leI (a := n + 1) (b := 0) (by omega) (by decide)).mp z
  omega
theorem kp_0 {d p : Int32} {S : xSt} (hb : bd (S 10 0) 8) : (keepingP d p S).1 < 0 ↔ (keepingP d p S).1 ≤ 0 := by
  have k2 : ((-2 : Int32) < 0 ↔ (-2 : Int32) ≤ 0) := by decide
  have k4 : ((-4 : Int32) < 0 ↔ (-4 : Int32) ≤ 0) := by decide
  unfold keepingP
  by_cases a : nI 0 ≤ d ∧ d ≤ nI 23
  · rw [if_pos a]
    by_cases b : nI 0 ≤ p ∧ p ≤ nI 9
    · rw [if_pos b]
      by_cases c : S 10 0 = nI 8
      · rw [if_pos c]; exact k4
      · rw [if_neg c]
        have hv := (bd_v hb (by decide)).2
        have hn := nI_p1 (n := vN (S 10 0)) (by omega)
        exact ⟨fun z => absurd (Int32.le_of_lt z) hn, fun z => absurd z hn⟩
    · rw [if_neg b]; exact k2
  · rw [if_neg a]; exact k2
theorem x_sheet (l : Launch) (hl : l.stackTraces = false) {G X : xSt} (h : XR G X) (hM : MI G) (s f n : Int32) : Cz l yX0_sheet (wsW_ yX0_sheet cX0_sheet 5 (some .int) [(28, 43, 44, 390)]) 3 3 310 sG [.ref 0, .int s, .int f, .int n] X (fun r X' => ∃ x, r = some (.int x) ∧ x = (sheetP s f n G).1 ∧ XR (sheetP s f n G).2 X') := by
  by_cases hs : nI 0 ≤ s ∧ s ≤ nI 3
  · obtain ⟨j, hj, rfl⟩ := bd_I (by decide) hs
    exact Cz_imp (x_sheetJ l hl h hM j (by omega) f n) (fun n hn => by unfold sF at hn; unfold sG; omega) (fun _ _ h => h)
  · exact x_sheetN l h s f n hs
set_option maxHeartbeats 800000 in
theorem x_readJ (l : Launch) {G X : xSt} (h : XR G X) (hM : MI G) (s : Nat) (hs : s < 4) : Cz l yX0_read (ws_ yX0_read cX0_read 4 (some .int)) 9 62 434 (aF 2) [.ref 0, .int (nI s)] X (fun r X' => ∃ x, r = some (.int x) ∧ x = (readP (nI s) G).1 ∧ XR (readP (nI s) G).2 X') := by
  refine Cz_start (ls := [some (.ref 0), some (.int (nI s)), none, none]) (by decide) rfl (Nat.le_of_ble_eq_true rfl) (aF_lo (by decide)) ?_
  intro Q hQ
  have hy := XR_XY h
  obtain ⟨g39, g40, g41, g42⟩ := XY_sh hy
  have hin : nI 0 ≤ nI s ∧ nI s ≤ nI 3 := ⟨nI_le (Nat.zero_le _) (by omega), nI_le (by omega) (by decide)⟩
  have L : ∀ (j : Nat) (n : Nat) (G1 X1 : xSt) (hj : n + j = 31) (hx : XR G1 X1) (hm : MI G1) (h39 : ¬ G1 39 s = 0) (hR : rdK s j n G1 = readP (nI s) G), V l (yX0_read.cls, cX0_read, 4, (some .int), [], yX0_read.name) (rmD 9 62 434, (aF 2), Q, xX0) 32 [some (.ref 0), some (.int (nI s)), some (.ref (768 + s)), some (.int (nI n))] [] (wX X1) (2 * j) (14 * j) := by
    intro j
    induction j with
    | zero =>
      intro n G1 X1 hj hx hm h39 hR
      have hy1 := XR_XY hx
      obtain ⟨e39, e40, e41, e42⟩ := XY_sh hy1
      have hr := XY_SR hy1 hm hs (by rw [e39]; exact h39)
      have hz := sh_z hr
      refine V_iconst dX0_read_32 li_2 ?_
      refine V_iload_n dX0_read_33 rfl ?_
      refine V_imulN dX0_read_34 ?_
      refine V_iconst dX0_read_35 li_2 ?_
      refine V_iaddN dX0_read_36 ?_
      refine V_aload_n dX0_read_37 rfl ?_
      refine Vq_v (x_shsz l hr) dX0_read_38 (lw_V q768 q769 q770 q102 q771) hv_X4_size (by decide) (sh_ob hr) cl_X4 rfl rfl (Nat.le_of_ble_eq_true rfl) ?_
      rw [hz.1]
      refine V_icmp_gtN (tgt := 81) dX0_read_41 (by decide) (by omega) (by omega) (fun c41 => ?_) (fun c41 => ?_)
      · refine V_iload_n dX0_read_81 rfl ?_
        exact V_ireturn dX0_read_82 rfl (hQ _ _ ⟨_, rfl, ⟨by rw [← hR]; rfl, by rw [← hR]; exact hx⟩⟩)
      · exact absurd hz.2 (by omega)
    | succ j ih =>
      intro n G1 X1 hj hx hm h39 hR
      have hy1 := XR_XY hx
      obtain ⟨e39, e40, e41, e42⟩ := XY_sh hy1
      have hr := XY_SR hy1 hm hs (by rw [e39]; exact h39)
      have hz := sh_z hr
      refine V_iconst dX0_read_32 li_2 ?_
      refine V_iload_n dX0_read_33 rfl ?_
      refine V_imulN dX0_read_34 ?_
      refine V_iconst dX0_read_35 li_2 ?_
      refine V_iaddN dX0_read_36 ?_
      refine V_aload_n dX0_read_37 rfl ?_
      refine Vq_v (x_shsz l hr) dX0_read_38 (lw_V q768 q769 q770 q102 q771) hv_X4_size (by decide) (sh_ob hr) cl_X4 rfl rfl (Nat.le_of_ble_eq_true rfl) ?_
      rw [hz.1]
      refine V_icmp_gtN (tgt := 81) dX0_read_41 (by decide) (by omega) (by omega) (fun c41 => ?_) (fun c41 => ?_)
      · refine V_iload_n dX0_read_81 rfl ?_
        exact V_ireturn dX0_read_82 rfl (hQ _ _ ⟨_, rfl, ⟨by rw [← hR, rdK_s, if_pos (by rw [← e41, hz.1]; exact nI_le (by omega) (by omega))], by rw [← hR, rdK_s, if_pos (by rw [← e41, hz.1]; exact nI_le (by omega) (by omega))]; exact hx⟩⟩)
      · have hS : ¬ G1 41 s ≤ nI (2 * n + 1) := by rw [← e41, hz.1]; exact fun z => by have := (nI_leI (by omega) (by omega)).mp z; omega
        have hb10 : bd (G1 10 0) 8 := hm.2.2.1
        have hQ4 := rdK_s s j n G1
        rw [if_neg hS, Nat.add_assoc (60 * s) (2 * n) 1] at hQ4
        refine V_aload_n dX0_read_44 rfl ?_
        refine V_aload_n dX0_read_45 rfl ?_
        refine V_aload_n dX0_read_46 rfl ?_
        refine Vq_v (x_shty l hr) dX0_read_47 (lw_V q779 q773 q774 q102 q775) hv_X4_type (by decide) (sh_ob hr) cl_X4 rfl rfl (Nat.le_of_ble_eq_true rfl) ?_
        refine V_iconst dX0_read_50 li_2 ?_
        refine V_iload_n dX0_read_51 rfl ?_
        refine V_imulN dX0_read_52 ?_
        refine Vq_v (x_shit l hr (i := 2 * n) (by omega)) dX0_read_53 (lw_V q780 q781 q782 q102 q783) hv_X4_item (by decide) (sh_ob hr) cl_X4 rfl rfl (Nat.le_of_ble_eq_true rfl) ?_
        refine V_aload_n dX0_read_56 rfl ?_
        refine V_aload_n dX0_read_57 rfl ?_
        refine Vq_v (x_shty l hr) dX0_read_58 (lw_V q779 q773 q774 q102 q775) hv_X4_type (by decide) (sh_ob hr) cl_X4 rfl rfl (Nat.le_of_ble_eq_true rfl) ?_
        refine V_iconst dX0_read_61 li_2 ?_
        refine V_iload_n dX0_read_62 rfl ?_
        refine V_imulN dX0_read_63 ?_
        refine V_iconst dX0_read_64 li_1 ?_
        refine V_iaddN dX0_read_65 ?_
        refine Vq_v (x_shit l hr (i := 2 * n + 1) (by omega)) dX0_read_66 (lw_V q780 q781 q782 q102 q783) hv_X4_item (by decide) (sh_ob hr) cl_X4 rfl rfl (Nat.le_of_ble_eq_true rfl) ?_
        refine Vz_vI (k' := 2 * j) (n' := 14 * j) (x_keeping l hx hm (X1 42 (60 * s + 2 * n)) (X1 42 (60 * s + (2 * n + 1)))) dX0_read_69 (lw_V q784 q717 q718 q95 q719) hv_X0_keeping (by decide) (wX_obj _) cl_X0 rfl rfl (Nat.le_of_ble_eq_true rfl) (fun _ z => z) (okl_c (ok_r (aF_ok (by decide))) (okl_c ok_i (okl_c (ok_r (by unfold aF; omega)) (okl_c ok_i okl_0)))) oks_0 ⟨by omega, by omega⟩ (fun x9 X9 h9 => ?_)
        rw [e42] at h9
        obtain ⟨ex, h9⟩ := h9
        rw [ex]
        refine V_if_lt (tgt := 81) dX0_read_72 (by decide) (fun c72 => ?_) (fun c72 => ?_)
        · rw [if_pos ((kp_0 hb10).mp c72)] at hQ4
          refine V_iload_n dX0_read_81 rfl ?_
          exact V_ireturn dX0_read_82 rfl (hQ _ _ ⟨_, rfl, ⟨by rw [← hR, hQ4], by rw [← hR, hQ4]; exact h9⟩⟩)
        · rw [if_neg (fun z => c72 ((kp_0 hb10).mpr z))] at hQ4
          refine V_iinc dX0_read_75 rfl (iinc_1 _) rfl (Nat.le_of_ble_eq_true rfl) ?_
          refine V_goto (tgt := 32) dX0_read_78 (by decide) ?_
          exact ih (n + 1) _ _ (by omega) h9 (MI_keeping hm _ _) (by rw [keepingP_r (by omega)]; exact h39) (hQ4.symm.trans hR)
  have L10z : ∀ (h0 : X 39 s = 0), V l (yX0_read.cls, cX0_read, 4, (some .int), [], yX0_read.name) (rmD 9 62 434, (aF 2), Q, xX0) 10 [some (.ref 0), some (.int (nI s)), none, none] [] (wX X) 62 434 := by
    intro h0
    have hF : readP (nI s) G = meetsF 1 G := by unfold readP; rw [if_pos hin, vN_nI (by omega), if_pos (by rw [← g39]; exact h0)]
    have hMF : MI (meetsF 1 G).2 := by have z := MI_read hM (nI s); rw [hF] at z; exact z
    refine V_aload_n dX0_read_10 rfl ?_
    refine V_getf (i := 23) k_X0 dX0_read_11 (by decide) q250 (wX_obj _) rfl ?_
    refine V_iload_n dX0_read_14 rfl ?_
    refine Vx_aa_sheets dX0_read_15 rfl hs ?_
    refine V_astore_n dX0_read_16 rfl (Nat.le_of_ble_eq_true rfl) (Nat.le_of_ble_eq_true rfl) ?_
    refine V_aload_n dX0_read_17 rfl ?_
    refine V_getfN (i := 0) k_X4 dX0_read_18 (by decide) (nw q222 rfl) (sh_nul hs h0) rfl ?_
    refine V_ifnonnullN dX0_read_21 ?_
    refine V_aload_n dX0_read_24 rfl ?_
    refine V_iconst dX0_read_25 li_1 ?_
    refine Vz_vI (k' := 0) (n' := 0) (x_met l (X := X) 1) dX0_read_26 (lw_V q764 q766 qs8 q95 q767) hv_X0_met (by decide) (wX_obj _) cl_X0 rfl rfl (Nat.le_of_ble_eq_true rfl) (fun _ h => h.elim) (fun _ _ => xok0) (fun _ _ => xok0) ⟨Nat.zero_le _, Nat.zero_le _⟩ (fun x9 X9 h9 => ?_)
    obtain ⟨ex, rfl⟩ := h9
    rw [ex]
    exact V_ireturn dX0_read_29 rfl (hQ _ _ ⟨_, rfl, ⟨by rw [hF]; rfl, by rw [hF]; exact XY_XR hMF (XY_wr hy (by omega))⟩⟩)
  have L10n : ∀ (h0 : ¬ X 39 s = 0), V l (yX0_read.cls, cX0_read, 4, (some .int), [], yX0_read.name) (rmD 9 62 434, (aF 2), Q, xX0) 10 [some (.ref 0), some (.int (nI s)), none, none] [] (wX X) 62 434 := by
    intro h0
    have hr := XY_SR hy hM hs h0
    refine V_aload_n dX0_read_10 rfl ?_
    refine V_getf (i := 23) k_X0 dX0_read_11 (by decide) q250 (wX_obj _) rfl ?_
    refine V_iload_n dX0_read_14 rfl ?_
    refine Vx_aa_sheets dX0_read_15 rfl hs ?_
    refine V_astore_n dX0_read_16 rfl (Nat.le_of_ble_eq_true rfl) (Nat.le_of_ble_eq_true rfl) ?_
    refine V_aload_n dX0_read_17 rfl ?_
    refine V_getfN (i := 0) k_X4 dX0_read_18 (by decide) (nw q222 rfl) (sh_ob hr) rfl ?_
    refine V_ifnonnull (tgt := 30) dX0_read_21 (by decide) ?_
    refine V_iconst dX0_read_30 li_0 ?_
    refine V_istore_n dX0_read_31 rfl (Nat.le_of_ble_eq_true rfl) (Nat.le_of_ble_eq_true rfl) ?_
    exact L 31 0 G X (by omega) h hM (by rw [← g39]; exact h0) (by unfold readP; rw [if_pos hin, vN_nI (by omega), if_neg (by rw [← g39]; exact h0)])
  refine V_iload_n dX0_read_0 rfl ?_
  refine Vs_callIF (s_isSheet l _) dX0_read_1 (lw_S q761 q762 q95 q763) hs_X0_isSheet (by decide) rfl (Nat.le_of_ble_eq_true rfl) ?_
  refine V_if_neB (tgt := 10) dX0_read_4 (by decide) (fun c4 => ?_) (fun c4 => ?_)
  · by_cases h0 : X 39 s = 0
    · exact L10z h0
    · exact L10n h0
  · exact absurd hin c4
set_option maxHeartbeats 400000 in
theorem x_readN (l : Launch) {G X : xSt} (h : XR G X) (s : Int32) (hs : ¬ (nI 0 ≤ s ∧ s ≤ nI 3)) : Cz l yX0_read (ws_ yX0_read cX0_read 4 (some .int)) 9 62 434 (aF 2) [.ref 0, .int s] X (fun r X' => ∃ x, r = some (.int x) ∧ x = (readP s G).1 ∧ XR (readP s G).2 X') := by
  refine Cz_start (ls := [some (.ref 0), some (.int s), none, none]) (by decide) rfl (Nat.le_of_ble_eq_true rfl) (aF_lo (by decide)) ?_
  intro Q hQ
  refine V_iload_n dX0_read_0 rfl ?_
  refine Vs_callIF (s_isSheet l _) dX0_read_1 (lw_S q761 q762 q95 q763) hs_X0_isSheet (by decide) rfl (Nat.le_of_ble_eq_true rfl) ?_
  refine V_if_neB (tgt := 10) dX0_read_4 (by decide) (fun c4 => ?_) (fun c4 => ?_)
  · exact absurd c4 hs
  · refine V_bipush dX0_read_7 lb_m2 ?_
    exact V_ireturn dX0_read_9 rfl (hQ _ _ ⟨_, rfl, ⟨by unfold readP; rw [if_neg c4], by unfold readP; rw [if_neg c4]; exact h⟩⟩)
theorem x_read (l : Launch) {G X : xSt} (h : XR G X) (hM : MI G) (s : Int32) : Cz l yX0_read (ws_ yX0_read cX0_read 4 (some .int)) 9 62 434 (aF 2) [.ref 0, .int s] X (fun r X' => ∃ x, r = some (.int x) ∧ x = (readP s G).1 ∧ XR (readP s G).2 X') := by
  by_cases hs : nI 0 ≤ s ∧ s ≤ nI 3
  · obtain ⟨j, hj, rfl⟩ := bd_I (by decide) hs
    exact x_readJ l h hM j (by omega)
  · exact x_readN l h s hs
