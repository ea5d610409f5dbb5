/-! PromiseTailor's side: write -/
set_option maxRecDepth 100000
theorem fF_sh {X : xSt} {s : Nat} (hs : s < 4) : ¬ fF X (768 + s) := by
  intro h
  unfold fF at h
  rcases h with h | h | h <;> omega
theorem wrI_r (k q d : Nat) (S : xSt) {r : Nat} (h : r ≠ 42) : wrI k q d S r = S r := by
  unfold wrI laysF
  exact mwr_R _ _ _ h
theorem RT_co (G : xSt) : ∀ r, (r < 2 ∨ (9 < r ∧ r < 21) ∨ (33 < r ∧ r ≠ 38 ∧ r ≠ 43)) → RT G r = G r := fun r hr => (RT_fr G r (by omega)).trans (asToldF_r G (by omega))
theorem min_s {z : Nat} (hz : z ≤ 60) : (if nI z < nI 24 then nI z else nI 24) = nI (min z 24) := by
  by_cases c : z < 24
  · rw [if_pos ((nI_ltI (by omega) (by decide)).mpr c), Nat.min_eq_left (by omega)]
  · rw [if_neg (fun h => c ((nI_ltI (by omega) (by decide)).mp h)), Nat.min_eq_right (by omega)]
set_option maxHeartbeats 800000 in
theorem x_write (l : Launch) {G X : xSt} (h0 : XR G X) (hM : MI G) (k s : Int32) : Cx l yX0_write (ws_ yX0_write cX0_write 6 (some .int)) 22 [.ref 0, .int k, .int s] X (fun r X' => ∃ x, r = some (.int x) ∧ x = (writeP k s G).1 ∧ XR (writeP k s G).2 X') := by
  refine Cz_start (ls := [some (.ref 0), some (.int k), some (.int s), none, none, none]) (by decide) rfl (Nat.le_of_ble_eq_true rfl) fF_lo ?_
  intro Q hQ
  have h := XR_rd h0 hM
  have hMr := MI_reads hM
  have L : ∀ (j : Nat) (kk q n : Nat) (hk8 : kk < 8) (hq : q < 4) (hn : n ≤ 24) (d : Nat) (G1 X1 : xSt) (hj : d + j = n) (hx : XR G1 X1) (hm : MI G1) (h30 : ∀ e, e < 24 → X1 30 (8 * e + kk) = G1 30 (8 * e + kk)) (h39 : ¬ G1 39 q = 0) (h41 : n ≤ vN (G1 41 q)) (hGF : (nI n, itF (wrI kk q) j d G1) = writeP k s G), V l (yX0_write.cls, cX0_write, 6, (some .int), [], yX0_write.name) (rmD 22 (rc X) (rs X), fF X, Q, xX0) 56 [some (.ref 0), some (.int (nI kk)), some (.int (nI q)), some (.ref (768 + q)), some (.int (nI n)), some (.int (nI d))] [] (wX X1) 0 0 := by
    intro j
    induction j with
    | zero =>
      intro kk q n hk8 hq hn d G1 X1 hj hx hm h30 h39 h41 hGF
      have hy1 := XR_XY hx
      obtain ⟨e39, e40, e41, e42⟩ := XY_sh hy1
      have hr := XY_SR hy1 hm hq (by rw [e39]; exact h39)
      have hz := sh_z hr
      refine V_iload dX0_write_56 rfl ?_
      refine V_iload dX0_write_58 rfl ?_
      refine V_icmp_geN (tgt := 88) dX0_write_60 (by decide) (by omega) (by omega) (fun c60 => ?_) (fun c60 => ?_)
      · refine V_iload dX0_write_88 rfl ?_
        exact V_ireturn dX0_write_90 rfl (hQ _ _ ⟨_, rfl, ⟨by rw [← hGF], by rw [← hGF]; exact hx⟩⟩)
      · exact absurd c60 (by omega)
    | succ j ih =>
      intro kk q n hk8 hq hn d G1 X1 hj hx hm h30 h39 h41 hGF
      have hy1 := XR_XY hx
      obtain ⟨e39, e40, e41, e42⟩ := XY_sh hy1
      have hr := XY_SR hy1 hm hq (by rw [e39]; exact h39)
      have hz := sh_z hr
      refine V_iload dX0_write_56 rfl ?_
      refine V_iload dX0_write_58 rfl ?_
      refine V_icmp_geN (tgt := 88) dX0_write_60 (by decide) (by omega) (by omega) (fun c60 => ?_) (fun c60 => ?_)
      · exact absurd c60 (by omega)
      · refine V_aload_n dX0_write_63 rfl ?_
        refine V_aload_n dX0_write_64 rfl ?_
        refine Vq_v (x_shty l hr) dX0_write_65 (lw_V q779 q773 q774 q102 q775) hv_X4_type (by decide) (sh_ob hr) cl_X4 rfl rfl (Nat.le_of_ble_eq_true rfl) ?_
        refine V_iload dX0_write_68 rfl ?_
        refine V_aload_n dX0_write_70 rfl ?_
        refine V_getf (i := 9) k_X0 dX0_write_71 (by decide) q236 (wX_obj _) rfl ?_
        refine V_iload dX0_write_74 rfl ?_
        refine Vx_aa_coatsBy dX0_write_76 rfl (show d < 24 by omega) ?_
        refine V_iload_n dX0_write_77 rfl ?_
        refine Vx_ld_crow dX0_write_78 (show d < 24 by omega) rfl (show kk < 8 by omega) ?_
        refine Vz_vV (k' := 0) (n' := 0) (x_shly l hr (i := d) (by rw [e41]; omega) (X1 30 (8 * d + kk))) dX0_write_79 (lw_V q1106 q1107 q1108 q102 q1109) hv_X4_lay (by decide) (sh_ob hr) cl_X4 rfl rfl (Nat.le_of_ble_eq_true rfl) (fun _ h => h.elim) (fun _ _ => xok0) (fun _ _ => xok0) ⟨Nat.le_refl _, Nat.le_refl _⟩ (fun X9 h9 => ?_)
        refine V_iinc dX0_write_82 rfl (iinc_1 _) rfl (Nat.le_of_ble_eq_true rfl) ?_
        refine V_goto (tgt := 56) dX0_write_85 (by decide) ?_
        have ev : lyN (fm X1 q) (X1 30 (8 * d + kk)) = lyV (G1 40 q) (G1 30 (8 * d + kk)) := by rw [← lyV_fm, e40, h30 d (by omega)]
        rw [h9, ev]
        exact ih kk q n hk8 hq hn (d + 1) (wrI kk q d G1) _ (by omega) (XY_XR (MI_wr (by omega) hm) (XY_wr hy1 (by omega))) (MI_wr (by omega) hm) (fun e he => by rw [mwr_r _ _ _ _ (show 30 ≠ 42 by decide), h30 e he, wrI_r _ _ _ _ (show 30 ≠ 42 by decide)]) (by rw [wrI_r _ _ _ _ (show 39 ≠ 42 by decide)]; exact h39) (by rw [wrI_r _ _ _ _ (show 41 ≠ 42 by decide)]; exact h41) hGF
  refine V_aload_n dX0_write_0 rfl ?_
  refine V_iload_n dX0_write_1 rfl ?_
  refine Vz_vI (k' := rct 1 X) (n' := rst 1 X) (x_isPersonT l h.1.1 k) dX0_write_2 (lw_V q654 q656 qs5 q95 q657) hv_X0_isPerson (by decide) (wX_obj _) cl_X0 rfl rfl (Nat.le_of_ble_eq_true rfl) (gF_fF (by decide)) (okl_c (ok_r (gF_ok (by decide))) (okl_c ok_i (okl_c ok_i (okl_n (okl_n (okl_n okl_0)))))) oks_0 ⟨Nat.le_refl _, Nat.le_refl _⟩ (fun x2 X2 h2 => ?_)
  obtain ⟨ex, h3, h4, h5⟩ := h2
  rw [ex, rr_2]
  have hX2 := XR_W0 h h3 h5 h4
  have er := rc_01 (X := X) h4 (h5.2.1 47 1 (by decide) (by decide))
  have hfv := FV_FW (FW_0 h5 h4)
  refine V_if_eqB (tgt := 15) dX0_write_5 (by decide) (fun c5 => ?_) (fun c5 => ?_)
  · refine V_bipush dX0_write_15 lb_m2 ?_
    exact V_ireturn dX0_write_17 rfl (hQ _ _ ⟨_, rfl, ⟨by unfold writeP; rw [if_neg c5], by unfold writeP; rw [if_neg c5]; exact hX2⟩⟩)
  · obtain ⟨k, rfl, hk, hk8⟩ := bd_in (n := 8) (by decide) (RD_p hM).1 c5
    have hvk : vN (nI k) = k := vN_nI (by omega)
    have hk2 := lt_2 hM hk hk8
    refine V_iload_n dX0_write_8 rfl ?_
    refine Vs_callIF (s_isSheet l _) dX0_write_9 (lw_S q761 q762 q95 q763) hs_X0_isSheet (by decide) rfl (Nat.le_of_ble_eq_true rfl) ?_
    refine V_if_neB (tgt := 18) dX0_write_12 (by decide) (fun c12 => ?_) (fun c12 => ?_)
    · obtain ⟨q, hq9, rfl⟩ := bd_I (by decide) c12
      have hq : q < 4 := by omega
      refine V_aload_n dX0_write_18 rfl ?_
      refine V_getf (i := 23) k_X0 dX0_write_19 (by decide) q250 (wX_obj _) rfl ?_
      refine V_iload_n dX0_write_22 rfl ?_
      refine Vx_aa_sheets dX0_write_23 rfl hq ?_
      refine V_astore_n dX0_write_24 rfl (Nat.le_of_ble_eq_true rfl) (Nat.le_of_ble_eq_true rfl) ?_
      refine V_aload_n dX0_write_25 rfl ?_
      refine V_getfN (i := 0) k_X4 dX0_write_26 (by decide) (nw q222 rfl) (wX_sh _ hq) rfl ?_
      obtain ⟨g39, g40, g41, g42⟩ := XY_sh (XR_XY hX2)
      by_cases h39 : X2 39 q = 0
      · rw [if_pos h39]
        refine V_ifnonnullN dX0_write_29 ?_
        have hF : writeP (nI k) (nI q) G = meetsF 1 (readsF G) := by unfold writeP; rw [if_pos c5, if_pos c12, vN_nI (by omega), if_pos (by rw [← g39]; exact h39)]
        have hMF : MI (meetsF 1 (readsF G)).2 := by have z := MI_write hM (nI k) (nI q); rw [hF] at z; exact z
        refine V_aload_n dX0_write_32 rfl ?_
        refine V_iconst dX0_write_33 li_1 ?_
        refine Vz_vI (k' := 0) (n' := 0) (x_met l (X := X2) 1) dX0_write_34 (lw_V q764 q766 qs8 q95 q767) hv_X0_met (by decide) (wX_obj _) cl_X0 rfl rfl (Nat.le_of_ble_eq_true rfl) (fun _ h => h.elim) (fun _ _ => xok0) (fun _ _ => xok0) ⟨Nat.zero_le _, Nat.zero_le _⟩ (fun x9 X9 h9 => ?_)
        obtain ⟨ex, rfl⟩ := h9
        rw [ex]
        exact V_ireturn dX0_write_37 rfl (hQ _ _ ⟨_, rfl, ⟨by rw [hF]; rfl, by rw [hF]; exact XY_XR hMF (XY_wr (XR_XY hX2) (by omega))⟩⟩)
      · rw [if_neg h39]
        refine V_ifnonnull (tgt := 38) dX0_write_29 (by decide) ?_
        refine V_aload_n dX0_write_38 rfl ?_
        refine Vz_vV (k' := 0) (n' := 0) (x_find l hX2.1.1) dX0_write_39 (lw_V q789 q791 qs9 q95 q792) hv_X0_find (by decide) (wX_obj _) cl_X0 rfl rfl (Nat.le_of_ble_eq_true rfl) (fF_FV hfv) (okl_c (ok_r (fF_ok (.inl (by decide)))) (okl_c ok_i (okl_c ok_i (okl_c (ok_r (fF_sh hq)) (okl_n (okl_n okl_0)))))) oks_0 ⟨Nat.le_of_eq er.1, Nat.le_of_eq er.2⟩ (fun X3 h3 => ?_)
        have hR := XR_find hX2 h3.1 h3.2.2
        have hQ3 := RQ_of h3.1 h3.2.1
        have hRR : XR (RT (readsF G)) X3 := XR_co hR (RT_co _) (MI_RT hMr)
        have hmR := MI_RT hMr
        have hy3 := XR_XY hRR
        have e3 : X3 39 = X2 39 := h3.2.2.1 39 (by omega)
        have hr := XY_SR hy3 hmR hq (by rw [e3]; exact h39)
        have hz := sh_z hr
        obtain ⟨f39, f40, f41, f42⟩ := XY_sh hy3
        have hk3 : k < vN (RT (readsF G) 2 0) := by rw [RT_fr _ 2 (by omega)]; exact hk2
        have h30 : ∀ e, e < 24 → X3 30 (8 * e + k) = RT (readsF G) 30 (8 * e + k) := fun e he => ((h3.1.2.2.2.2.2 e (by rw [h3.2.1, vN_nI (by decide)]; exact he)).1 k hk3).1
        have hF : writeP (nI k) (nI q) G = writeT k q (RT (readsF G)) := by unfold writeP; rw [if_pos c5, if_pos c12, vN_nI (by omega), if_neg (by rw [← g39]; exact h39), vN_nI (by omega)]
        refine V_bipush dX0_write_42 lb_24 ?_
        refine V_aload_n dX0_write_44 rfl ?_
        refine Vq_v (x_shsz l hr) dX0_write_45 (lw_V q768 q769 q770 q102 q771) hv_X4_size (by decide) (sh_ob hr) cl_X4 rfl rfl (Nat.le_of_ble_eq_true rfl) ?_
        rw [hz.1]
        refine V_mmin dX0_write_48 q817 q482 q109 q483 ⟨Nat.le_of_ble_eq_true rfl, Nat.le_of_ble_eq_true rfl⟩ (Nat.le_of_ble_eq_true rfl) ?_
        refine V_topi (min_s hz.2) ?_
        refine V_istore dX0_write_51 rfl (Nat.le_of_ble_eq_true rfl) (Nat.le_of_ble_eq_true rfl) ?_
        refine V_iconst dX0_write_53 li_0 ?_
        refine V_istore dX0_write_54 rfl (Nat.le_of_ble_eq_true rfl) (Nat.le_of_ble_eq_true rfl) ?_
        exact L (min (vN (X3 41 q)) 24) k q (min (vN (X3 41 q)) 24) (by omega) hq (Nat.min_le_right _ _) 0 (RT (readsF G)) X3 (by omega) hRR hmR h30 (by rw [← f39, e3]; exact h39) (by rw [← f41]; exact Nat.min_le_left _ _) (by rw [hF]; unfold writeT; rw [← f41])
    · refine V_bipush dX0_write_15 lb_m2 ?_
      exact V_ireturn dX0_write_17 rfl (hQ _ _ ⟨_, rfl, ⟨by unfold writeP; rw [if_pos c5, if_neg c12], by unfold writeP; rw [if_pos c5, if_neg c12]; exact hX2⟩⟩)
