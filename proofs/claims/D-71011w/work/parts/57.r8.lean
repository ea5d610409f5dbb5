/-! PromiseTailor's side: find -/
set_option maxRecDepth 100000
/-- what find leaves alone -/
def FW (X Y : xSt) : Prop := (∀ r, (r < 2 ∨ (9 < r ∧ r < 27) ∨ (32 < r ∧ r < 46) ∨ (50 < r ∧ r ≠ 54 ∧ r ≠ 55)) → Y r = X r) ∧ (∀ r i, 1 < i → ((46 ≤ r ∧ r ≤ 50) ∨ r = 54) → Y r i = X r i) ∧ (X 47 0 = nI 1 → ∀ r, 1 < r → r < 5 → Y r = X r) ∧ (X 47 1 = nI 1 → ∀ r, 4 < r → r < 10 → Y r = X r) ∧ (X 47 0 = nI 1 → Y 47 0 = nI 1) ∧ (X 47 1 = nI 1 → Y 47 1 = nI 1)
theorem FW_rf (X : xSt) : FW X X := ⟨fun _ _ => rfl, fun _ _ _ _ => rfl, fun _ _ _ _ => rfl, fun _ _ _ _ => rfl, fun h => h, fun h => h⟩
theorem FW_tr {X Y Z : xSt} (h : FW X Y) (g : FW Y Z) : FW X Z := ⟨fun r hr => (g.1 r hr).trans (h.1 r hr), fun r i hi hr => (g.2.1 r i hi hr).trans (h.2.1 r i hi hr), fun z r a b => (g.2.2.1 (h.2.2.2.2.1 z) r a b).trans (h.2.2.1 z r a b), fun z r a b => (g.2.2.2.1 (h.2.2.2.2.2 z) r a b).trans (h.2.2.2.1 z r a b), fun z => g.2.2.2.2.1 (h.2.2.2.2.1 z), fun z => g.2.2.2.2.2 (h.2.2.2.2.2 z)⟩
theorem FW_frx {X Y : xSt} (h : frx X Y) : FW X Y := ⟨fun r hr => h r (by omega), fun r i hi hr => by rw [h r (by omega)], fun _ r a b => h r (by omega), fun _ r a b => h r (by omega), fun z => by rw [h 47 (by omega)]; exact z, fun z => by rw [h 47 (by omega)]; exact z⟩
theorem FW_0 {X Y : xSt} (h : WR0 X Y) (h2 : Y 47 0 = nI 1) : FW X Y := ⟨fun r hr => h.1 r (by omega) (by omega) (by omega) (by omega) (by omega) (by omega) (by omega) (by omega) (by omega), fun r i hi hr => h.2.1 r i (by omega) (by omega), fun z r a b => by rw [h.2.2 z], fun _ r a b => h.1 r (by omega) (by omega) (by omega) (by omega) (by omega) (by omega) (by omega) (by omega) (by omega), fun _ => h2, fun z => (h.2.1 47 1 (by decide) (by decide)).trans z⟩
theorem FW_1 {X Y : xSt} (h : WR1 X Y) (h2 : Y 47 1 = nI 1) : FW X Y := ⟨fun r hr => h.1 r (by omega) (by omega) (by omega) (by omega) (by omega) (by omega) (by omega) (by omega) (by omega) (by omega) (by omega), fun r i hi hr => h.2.1 r i (by omega) (by omega), fun _ r a b => h.1 r (by omega) (by omega) (by omega) (by omega) (by omega) (by omega) (by omega) (by omega) (by omega) (by omega) (by omega), fun z r a b => by rw [h.2.2 z], fun z => (h.2.1 47 0 (by decide) (by decide)).trans z, fun _ => h2⟩
/-- the beginning of the coats, told so far -/
def DB (i : Nat) (T X : xSt) : Prop := ∀ k, k < i → X 27 k = T 27 k ∧ bd (T 27 k) 99 ∧ X 28 k = T 28 k
theorem gF1_of {X Y : xSt} (h : Y 47 1 = X 47 1) : ∀ n, gF 1 Y n → fF X n := fun n hn => gF_fF (by decide) n ⟨by rw [← h]; exact hn.1, hn.2⟩
set_option maxHeartbeats 4000000 in
theorem x_find (l : Launch) {T X : xSt} (h0 : XT T X) : Cx l yX0_find (ws_ yX0_find cX0_find 2 none) 20 [.ref 0] X (fun r X' => r = none ∧ RD (runsF T) X' ∧ X' 55 0 = nI 24 ∧ FW X X') := by
  refine Cz_start (ls := [some (.ref 0), none]) (by decide) rfl (Nat.le_of_ble_eq_true rfl) fF_lo ?_
  intro Q hQ
  have L77 : ∀ (j i : Nat) (T1 X1 : xSt), i + j = 24 → RD T1 X1 → X1 55 0 = nI i → FW X X1 → itF goesF j i T1 = runsF T → V l (yX0_find.cls, cX0_find, 2, none, [], yX0_find.name) (rmD 20 (rc X) (rs X), fF X, Q, xX0) 77 [some (.ref 0), some (.int (nI i))] [] (wX X1) 0 0 := by
    intro j
    induction j with
    | zero =>
      intro i T1 X1 hij hD h5 hW hR
      refine V_iload_n dX0_find_77 rfl ?_
      refine V_bipush dX0_find_78 lb_24 ?_
      refine V_icmp_ge (tgt := 94) dX0_find_80 (by decide) (fun _ => ?_) (fun c80 => absurd (nI_le (by omega) (by omega)) c80)
      exact V_vreturn dX0_find_94 rfl (hQ _ _ ⟨rfl, ⟨by rw [← hR]; exact hD, by rw [h5, show i = 24 by omega], hW⟩⟩)
    | succ j ih =>
      intro i T1 X1 hij hD h5 hW hR
      refine V_iload_n dX0_find_77 rfl ?_
      refine V_bipush dX0_find_78 lb_24 ?_
      refine V_icmp_ge (tgt := 94) dX0_find_80 (by decide) (fun c80 => absurd c80 (nI_ge (by omega) (by omega))) (fun _ => ?_)
      refine V_aload_n dX0_find_83 rfl ?_
      refine V_iload_n dX0_find_84 rfl ?_
      refine Vz_vV (x_passes_ l hD (show i < 24 by omega) h5) dX0_find_85 (lw_V q793 q795 qs10 q95 q796) hv_X0_passes (by decide) (wX_obj _) cl_X0 rfl rfl (Nat.le_of_ble_eq_true rfl) (fun _ h => h.elim) (fun _ _ => xok0) (fun _ _ => xok0) ⟨Nat.le_of_eq (Nat.zero_add _), Nat.le_of_eq (Nat.zero_add _)⟩ (fun X2 h2 => ?_)
      refine V_iinc dX0_find_88 rfl (iinc_1 _) rfl (Nat.le_of_ble_eq_true rfl) ?_
      refine V_goto (tgt := 77) dX0_find_91 (by decide) ?_
      obtain ⟨Y, e1, e2, e3, e4⟩ := h2
      refine ih (i + 1) (goesF i T1) X2 (by omega) e4 (by rw [e1]; exact mwr_s _ _ _ _) (FW_tr hW (FW_frx (frx_tr e2 (fun r hr => by rw [e1]; exact cpD_o (by omega))))) hR
  have L59 : ∀ (j i : Nat) (T1 X1 : xSt), i + j = vN (T1 5 0) → XT T1 X1 → FRS X1 → DB (vN (T1 2 0)) T1 X1 → (∀ p, p < i → X1 29 p = nI 0 ∧ T1 29 p = nI 0) → FW X X1 → daysF (itF st2F (j + (vN (T1 21 0) - vN (T1 5 0))) i T1) = runsF T → V l (yX0_find.cls, cX0_find, 2, none, [], yX0_find.name) (rmD 20 (rc X) (rs X), fF X, Q, xX0) 59 [some (.ref 0), some (.int (nI i))] [.int (T1 5 0), .int (nI i)] (wX X1) 0 0 := by
    intro j
    induction j with
    | zero =>
      intro i T1 X1 hij hX hF hB hP hW hR
      obtain ⟨hl, c0, d0, c1, d1, n2, b2, n5, b5, m2, m5, y0, y1⟩ := RD_x hX hF
      rw [m5]
      have hx := XO_21 hX
      have hD : RD (itF st2F (vN (T1 21 0) - vN (T1 5 0)) i T1) (mwr X1 55 0 (nI 0)) := by
        have hfr : fr T1 (itF st2F (vN (T1 21 0) - vN (T1 5 0)) i T1) := fr_it (fun p S => fr_mwr (fr_rf S) (by decide) _ _) _ _ _
        have h27 : ∀ r, r ≠ 29 → itF st2F (vN (T1 21 0) - vN (T1 5 0)) i T1 r = T1 r := fun r hr => itF_r (fun p S => mwr_R _ _ _ hr) _ _ _
        have h29 : ∀ p, p < i → itF st2F (vN (T1 21 0) - vN (T1 5 0)) i T1 29 p = nI 0 := by
          intro p hp
          have hk : ∀ j q S, i ≤ q → S 29 p = nI 0 → itF st2F j q S 29 p = nI 0 := by
            intro j
            induction j with
            | zero => intro q S _ h; exact h
            | succ j ihj => intro q S hq h; exact ihj (q + 1) _ (by omega) (by show mwr S 29 q (nI 0) 29 p = nI 0; rw [mwr_q _ _ _ _ (show p ≠ q by omega)]; exact h)
          exact hk _ _ _ (Nat.le_refl _) (hP p hp).2
        have hxf : frx X1 (mwr X1 55 0 (nI 0)) := fun r hr => mwr_R _ _ _ (by omega)
        refine ⟨XT_fr hfr hxf hX, FRS_fr hxf hF, ?_, ?_, ?_, ?_⟩
        · rw [h27 2 (by decide), h27 27 (by decide), h27 28 (by decide), mwr_R _ _ _ (show 27 ≠ 55 by decide), mwr_R _ _ _ (show 28 ≠ 55 by decide)]; exact hB
        · intro p hp
          rw [h27 5 (by decide)] at hp
          rw [mwr_R _ _ _ (show 29 ≠ 55 by decide), h29 p (by omega)]
          exact (hP p (by omega)).1
        · intro p hp z
          rw [h27 5 (by decide)] at hp
          rw [h29 p (by omega)] at z
          exact absurd z (by decide +kernel)
        · intro e he
          rw [mwr_s, vN_nI (by decide)] at he
          omega
      have hR2 : itF goesF 24 0 (itF st2F (vN (T1 21 0) - vN (T1 5 0)) i T1) = runsF T := by rw [Nat.zero_add] at hR; exact hR
      refine V_icmp_ge (tgt := 75) dX0_find_59 (by decide) (fun _ => ?_) (fun c59 => absurd (nI_le (by omega) (by omega)) c59)
      refine V_iconst dX0_find_75 li_0 ?_
      refine V_istore_n dX0_find_76 rfl (Nat.le_of_ble_eq_true rfl) (Nat.le_of_ble_eq_true rfl) ?_
      rw [← wX_55 X1 (nI 0)]
      exact L77 24 0 _ _ (by decide) hD (mwr_s _ _ _ _) (FW_tr hW (FW_frx (fun r hr => mwr_R _ _ _ (by omega)))) hR2
    | succ j ih =>
      intro i T1 X1 hij hX hF hB hP hW hR
      obtain ⟨hl, c0, d0, c1, d1, n2, b2, n5, b5, m2, m5, y0, y1⟩ := RD_x hX hF
      rw [m5]
      have hfr : fr T1 (st2F i T1) := fr_mwr (fr_rf T1) (by decide) _ _
      have hfx : frx X1 (mwr X1 29 i (nI 0)) := frx_of (fr_mwr (fr_rf X1) (by decide) _ _)
      have hX2 := XT_fr hfr hfx hX
      refine V_icmp_ge (tgt := 75) dX0_find_59 (by decide) (fun c59 => absurd c59 (nI_ge (by omega) (by omega))) (fun _ => ?_)
      refine V_aload_n dX0_find_62 rfl ?_
      refine V_getf (i := 8) k_X0 dX0_find_63 (by decide) q235 (wX_obj _) rfl ?_
      refine V_iload_n dX0_find_66 rfl ?_
      refine V_iconst dX0_find_67 li_0 ?_
      refine Vx_st_states dX0_find_68 rfl (by omega) ?_
      refine V_iinc dX0_find_69 rfl (iinc_1 _) rfl (Nat.le_of_ble_eq_true rfl) ?_
      refine V_goto (tgt := 51) dX0_find_72 (by decide) ?_
      refine V_iload_n dX0_find_51 rfl ?_
      refine V_aload_n dX0_find_52 rfl ?_
      refine V_getf (i := 2) k_X0 dX0_find_53 (by decide) q229 (wX_obj _) rfl ?_
      refine Vq_u (x_manyf1 l (show mwr X1 29 i (nI 0) 47 1 = nI 1 from hF.2) (LQ_of (X := X1) rfl rfl (hl 1 (by decide)))) dX0_find_56 (lw_U q707 q708 q709 q662 q96 q663) rfl hs_X1_many (by decide) (.inl ⟨_, _, _, _, (wX_tx1 _), cl_X3, rfl⟩) rfl (Nat.le_of_ble_eq_true rfl) ?_
      rw [show mwr X1 29 i (nI 0) 5 0 = st2F i T1 5 0 from y1.1]
      refine ih (i + 1) (st2F i T1) _ (by rw [hfr 5 (by omega)]; omega) hX2 (FRS_fr hfx hF) (fun k hk => ?_) (fun p hp => ?_) (FW_tr hW (FW_frx hfx)) (by rw [hfr 21 (by omega), hfr 5 (by omega), ← hR, show j + 1 + (vN (T1 21 0) - vN (T1 5 0)) = j + (vN (T1 21 0) - vN (T1 5 0)) + 1 from by omega]; rfl)
      · exact hB k hk
      · show mwr X1 29 i (nI 0) 29 p = nI 0 ∧ mwr T1 29 i (nI 0) 29 p = nI 0
        by_cases e : p = i
        · rw [e, mwr_s, mwr_s]; exact ⟨rfl, rfl⟩
        · rw [mwr_q _ _ _ _ e, mwr_q _ _ _ _ e]; exact hP p (by omega)
  have L10 : ∀ (j i : Nat) (T1 X1 : xSt), i + j = vN (T1 2 0) → XT T1 X1 → X1 47 0 = nI 1 → X1 47 1 = X 47 1 → DB i T1 X1 → FW X X1 → daysF (st2sF (itF st1F j i T1)) = runsF T → V l (yX0_find.cls, cX0_find, 2, none, [], yX0_find.name) (rmD 20 (rc X) (rs X), fF X, Q, xX0) 10 [some (.ref 0), some (.int (nI i))] [.int (T1 2 0), .int (nI i)] (wX X1) (rct 1 X) (rst 1 X) := by
    intro j
    induction j with
    | zero =>
      intro i T1 X1 hij hX hF hF1 hB hW hR
      have p2 := bd_v hX.2.2.2.2.1.1 (by decide)
      rw [p2.1]
      refine V_icmp_ge (tgt := 49) dX0_find_10 (by decide) (fun _ => ?_) (fun c10 => absurd (nI_le (by omega) (by omega)) c10)
      refine V_iconst dX0_find_49 li_0 ?_
      refine V_istore_n dX0_find_50 rfl (Nat.le_of_ble_eq_true rfl) (Nat.le_of_ble_eq_true rfl) ?_
      refine V_iload_n dX0_find_51 rfl ?_
      refine V_aload_n dX0_find_52 rfl ?_
      refine V_getf (i := 2) k_X0 dX0_find_53 (by decide) q229 (wX_obj _) rfl ?_
      refine Vz_uI (k' := 0) (n' := 0) (x_manyT1 l hX) dX0_find_56 (lw_U q707 q708 q709 q662 q96 q663) rfl hs_X1_many (by decide) (.inl ⟨_, _, _, _, (wX_tx1 _), cl_X3, rfl⟩) rfl (Nat.le_of_ble_eq_true rfl) (gF1_of hF1) (okl_c (ok_r (gF_ok (by decide))) (okl_c ok_i okl_0)) (oks_c ok_i oks_0) ⟨by unfold rct; rw [hF1]; exact Nat.le_refl _, by unfold rst; rw [hF1]; exact Nat.le_refl _⟩ (fun x2 X2 h2 => ?_)
      obtain ⟨rfl, h3, h4, h5⟩ := h2
      have hF2 : X2 47 0 = nI 1 := (h5.2.1 47 0 (by decide) (by decide)).trans hF
      refine L59 (vN (T1 5 0)) 0 T1 X2 (Nat.zero_add _) h3 ⟨hF2, h4⟩ (fun k hk => ?_) (fun p hp => absurd hp (by omega)) (FW_tr hW (FW_1 h5 h4)) ?_
      · rw [h5.1 27 (by decide) (by decide) (by decide) (by decide) (by decide) (by decide) (by decide) (by decide) (by decide) (by decide) (by decide), h5.1 28 (by decide) (by decide) (by decide) (by decide) (by decide) (by decide) (by decide) (by decide) (by decide) (by decide) (by decide)]; exact hB k (by omega)
      · have hx := XO_21 hX
        rw [show vN (T1 5 0) + (vN (T1 21 0) - vN (T1 5 0)) = vN (T1 21 0) by omega]
        exact hR
    | succ j ih =>
      intro i T1 X1 hij hX hF hF1 hB hW hR
      have p2 := bd_v hX.2.2.2.2.1.1 (by decide)
      rw [p2.1]
      have hl := hX.1.2.1
      have z0 := (hX.2.2.2.2.2.2.1.resolve_right (fun z => by rw [hF] at z; exact absurd z.1 (by decide +kernel))).2
      have a0 : cnt X1 0 = vN (T1 2 0) := by unfold cnt; rw [show szr 0 = 2 from rfl, z0.1]
      have d0 : i < std X1 0 := by rw [hX.1.2.2.2.2.2.2.2.1 0 (by decide) (by decide)]; omega
      have yi := z0.2 i (by omega)
      obtain ⟨s, hs, hs2⟩ := (hX.2.2.2.2.2.1.1 i (by omega)).2
      have hfr : fr T1 (st1F i T1) := fr_mwr (fr_mwr (fr_rf T1) (by decide) _ _) (by decide) _ _
      have hfx : frx X1 (mwr (mwr X1 27 i (T1 4 i)) 28 i (nI 0)) := frx_of (fr_mwr (fr_mwr (fr_rf X1) (by decide) _ _) (by decide) _ _)
      have hX2 := XT_fr hfr hfx hX
      refine V_icmp_ge (tgt := 49) dX0_find_10 (by decide) (fun c10 => absurd c10 (nI_ge (by omega) (by omega))) (fun _ => ?_)
      refine V_aload_n dX0_find_13 rfl ?_
      refine V_getf (i := 6) k_X0 dX0_find_14 (by decide) q233 (wX_obj _) rfl ?_
      refine V_iload_n dX0_find_17 rfl ?_
      refine V_aload_n dX0_find_18 rfl ?_
      refine V_getf (i := 1) k_X0 dX0_find_19 (by decide) q228 (wX_obj _) rfl ?_
      refine V_getfU (i := 6) k_X2 dX0_find_22 (by decide) q175 q176 (wX_tx0 _) rfl ?_
      refine V_iload_n dX0_find_25 rfl ?_
      refine V_get (q := 0) (hl 0 (by decide)) rfl (by omega) dX0_find_26 (lw_V q665 q666 q667 q100 q668) (Nat.le_of_ble_eq_true rfl) (by decide) ?_
      rw [eln_0]
      refine V_castE dX0_find_29 q679 (.inl ⟨_, _, _, _, (wX_per _ (d := i) (by omega) d0), cl_X8, rfl⟩) ?_
      refine V_getfN (i := 1) k_X8 dX0_find_32 (by decide) (nw q584 rfl) (wX_per _ (d := i) (by omega) d0) rfl ?_
      rw [yi.2]
      refine Vx_st_coats dX0_find_35 rfl (by omega) ?_
      refine V_aload_n dX0_find_36 rfl ?_
      refine V_getf (i := 7) k_X0 dX0_find_37 (by decide) q234 (wX_obj _) rfl ?_
      refine V_iload_n dX0_find_40 rfl ?_
      refine V_iconst dX0_find_41 li_0 ?_
      refine Vx_st_torn dX0_find_42 rfl (by omega) ?_
      refine V_iinc dX0_find_43 rfl (iinc_1 _) rfl (Nat.le_of_ble_eq_true rfl) ?_
      refine V_goto (tgt := 2) dX0_find_46 (by decide) ?_
      refine V_iload_n dX0_find_2 rfl ?_
      refine V_aload_n dX0_find_3 rfl ?_
      refine V_getf (i := 1) k_X0 dX0_find_4 (by decide) q228 (wX_obj _) rfl ?_
      refine Vq_u (x_manyf0 l (show mwr (mwr X1 27 i (T1 4 i)) 28 i (nI 0) 47 0 = nI 1 from hF) (LQ_of (X := X1) rfl rfl (hl 0 (by decide)))) dX0_find_7 (lw_U q658 q659 q661 q662 q96 q663) rfl hs_X1_many (by decide) (.inl ⟨_, _, _, _, (wX_tx0 _), cl_X2, rfl⟩) rfl (Nat.le_of_ble_eq_true rfl) ?_
      rw [show mwr (mwr X1 27 i (T1 4 i)) 28 i (nI 0) 2 0 = st1F i T1 2 0 from z0.1]
      refine ih (i + 1) (st1F i T1) _ (by rw [hfr 2 (by omega)]; omega) hX2 hF hF1 (fun k hk => ?_) (FW_tr hW (FW_frx hfx)) hR
      show mwr (mwr X1 27 i (T1 4 i)) 28 i (nI 0) 27 k = mwr (mwr T1 27 i (T1 4 i)) 28 i (nI 0) 27 k ∧ bd (mwr (mwr T1 27 i (T1 4 i)) 28 i (nI 0) 27 k) 99 ∧ mwr (mwr X1 27 i (T1 4 i)) 28 i (nI 0) 28 k = mwr (mwr T1 27 i (T1 4 i)) 28 i (nI 0) 28 k
      rw [mwr_r _ _ _ _ (show 27 ≠ 28 by decide), mwr_r _ _ _ _ (show 27 ≠ 28 by decide)]
      by_cases e : k = i
      · rw [e, mwr_s, mwr_s, mwr_s, mwr_s, hs2]; exact ⟨rfl, ⟨s, by omega, rfl⟩, rfl⟩
      · have hb := hB k (by omega)
        exact ⟨by rw [mwr_q _ _ _ _ e, mwr_q _ _ _ _ e]; exact hb.1, by rw [mwr_q _ _ _ _ e]; exact hb.2.1, by rw [mwr_q _ _ _ _ e, mwr_r _ _ _ _ (show 28 ≠ 27 by decide), mwr_q _ _ _ _ e, mwr_r _ _ _ _ (show 28 ≠ 27 by decide)]; exact hb.2.2⟩
  refine V_iconst dX0_find_0 li_0 ?_
  refine V_istore_n dX0_find_1 rfl (Nat.le_of_ble_eq_true rfl) (Nat.le_of_ble_eq_true rfl) ?_
  refine V_iload_n dX0_find_2 rfl ?_
  refine V_aload_n dX0_find_3 rfl ?_
  refine V_getf (i := 1) k_X0 dX0_find_4 (by decide) q228 (wX_obj _) rfl ?_
  refine Vz_uI (k' := rct 1 X) (n' := rst 1 X) (x_manyT0 l h0) dX0_find_7 (lw_U q658 q659 q661 q662 q96 q663) rfl hs_X1_many (by decide) (.inl ⟨_, _, _, _, (wX_tx0 _), cl_X2, rfl⟩) rfl (Nat.le_of_ble_eq_true rfl) (gF_fF (by decide)) (okl_c (ok_r (gF_ok (by decide))) (okl_c ok_i okl_0)) (oks_c ok_i oks_0) ⟨Nat.le_refl _, Nat.le_refl _⟩ (fun x2 X2 h2 => ?_)
  obtain ⟨rfl, h3, h4, h5⟩ := h2
  exact L10 (vN (T 2 0)) 0 T X2 (Nat.zero_add _) h3 h4 (h5.2.1 47 1 (by decide) (by decide)) (fun k hk => absurd hk (by omega)) (FW_0 h5 h4) rfl
