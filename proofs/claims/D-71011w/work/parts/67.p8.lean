/-! PromiseTailor's side: plans, was and ask -/
set_option maxRecDepth 100000
theorem max_ak (x y : Int32) : (if x < y then y else x) = (if x ≤ y then y else x) := by
  by_cases a : x < y
  · rw [if_pos a, if_pos (Int32.le_of_lt a)]
  · rw [if_neg a]
    by_cases b : x ≤ y
    · rw [if_pos b, Int32.le_antisymm b (Int32.not_lt.mp a)]
    · rw [if_neg b]
theorem akC_c {S T : xSt} {d : Nat} (h : ∀ u, u < 10 → S 38 (24 * u + d) = T 38 (24 * u + d)) (bits : Int32) (a : Nat) (ha : a < 10) : akC S bits d a = akC T bits d a := itA_c _ _ _ (fun b _ hb => by
  funext n
  unfold akG akV
  rw [h a ha, h b (by omega)])
theorem akM_c {S T : xSt} {d : Nat} (h : ∀ u, u < 10 → S 38 (24 * u + d) = T 38 (24 * u + d)) (bits : Int32) : akM S bits d = akM T bits d := itA_c _ _ _ (fun a _ ha => by
  funext m
  unfold akH
  rw [akC_c h bits a (by omega)])
theorem askF_1 (k : Nat) (R : xSt) : (askF k R).1 = askV (sizesF k R).1 (sizesF k R).2 := by
  unfold askF
  dsimp only

set_option maxHeartbeats 4000000 in
theorem x_wasOf (l : Launch) {R X : xSt} (h : PT R X) (hS : SV R) (hf0 : X 47 0 = nI 1) {k : Nat} {what : Int32} (hk : k < vN (R 2 0)) : Cx l yX0_wasOf (ws_ yX0_wasOf cX0_wasOf 3 (some .int)) 23 [.ref 0, .int (nI k), .int what] X (fun r X' => ∃ x, r = some (.int x) ∧ x = (if what = 0 then sizesF k R else sortsF k R).1 ∧ PT R X' ∧ FV X X') := by
  refine Cz_start (ls := [some (.ref 0), some (.int (nI k)), some (.int what)]) (by decide) rfl (Nat.le_of_ble_eq_true rfl) fF_lo ?_
  intro Q hQ
  have p2 := bd_v h.1.2.2.2.2.1.1 (by decide)
  have hl := h.1.1.2.1
  have s0 := (h.1.2.2.2.2.2.2.1.resolve_right (fun z => by rw [hf0] at z; exact absurd z.1 (by decide +kernel))).2
  have c0 : cnt X 0 = vN (R 2 0) := by unfold cnt; rw [show szr 0 = 2 from rfl, s0.1]
  have d0 : k < std X 0 := by rw [h.1.1.2.2.2.2.2.2.2.1 0 (by decide) (by decide), c0]; exact hk
  have y0 := s0.2 k hk
  have tb := h.1.2.2.2.2.2.1.1 k hk
  refine V_iload_n dX0_wasOf_0 rfl ?_
  refine V_if_ne (tgt := 12) dX0_wasOf_1 (by decide) (fun c1 => ?_) (fun c1 => ?_)
  · refine V_aload_n dX0_wasOf_12 rfl ?_
    refine V_aload_n dX0_wasOf_13 rfl ?_
    refine V_getf (i := 1) k_X0 dX0_wasOf_14 (by decide) q228 (wX_obj _) rfl ?_
    refine V_getfU (i := 6) k_X2 dX0_wasOf_17 (by decide) q175 q176 (wX_tx0 _) rfl ?_
    refine V_iload_n dX0_wasOf_20 rfl ?_
    refine V_get (q := 0) (hl 0 (by decide)) rfl (by rw [c0]; exact hk) dX0_wasOf_21 (lw_V q665 q666 q667 q100 q668) (Nat.le_of_ble_eq_true rfl) (by decide) ?_
    rw [eln_0]
    refine V_castE dX0_wasOf_24 q679 (.inl ⟨_, _, _, _, (wX_per _ (d := k) (by omega) d0), cl_X8, rfl⟩) ?_
    refine Vz_wI (k' := 0) (n' := 0) (x_sortBy l h hS hf0 hk) dX0_wasOf_27 (lw_VW q974 q976 qs32 q95 q977) hv_X0_sortBy (by decide) (wX_obj _) cl_X0 rfl rfl (Nat.le_of_ble_eq_true rfl) (fun _ z => z) (okl_c (ok_r (fF_ok (.inl (Nat.le_of_ble_eq_true rfl)))) (okl_c ok_i (okl_c ok_i okl_0))) oks_0 ⟨Nat.le_refl _, Nat.le_refl _⟩ (fun x2 X2 h2 => ?_)
    exact V_ireturn dX0_wasOf_30 rfl (hQ _ _ ⟨_, rfl, ⟨by rw [if_neg c1]; exact h2.1, h2.2.1, h2.2.2⟩⟩)
  · refine V_aload_n dX0_wasOf_4 rfl ?_
    refine V_iload_n dX0_wasOf_5 rfl ?_
    refine Vz_wI (k' := 0) (n' := 0) (x_sizesOf l h hS hf0 hk) dX0_wasOf_6 (lw_VW q970 q972 qs31 q95 q973) hv_X0_sizesOf (by decide) (wX_obj _) cl_X0 rfl rfl (Nat.le_of_ble_eq_true rfl) (fun _ z => z) (okl_c (ok_r (fF_ok (.inl (Nat.le_of_ble_eq_true rfl)))) (okl_c ok_i (okl_c ok_i okl_0))) oks_0 ⟨Nat.le_refl _, Nat.le_refl _⟩ (fun x2 X2 h2 => ?_)
    refine V_goto (tgt := 30) dX0_wasOf_9 (by decide) ?_
    exact V_ireturn dX0_wasOf_30 rfl (hQ _ _ ⟨_, rfl, ⟨by rw [if_pos c1]; exact h2.1, h2.2.1, h2.2.2.1⟩⟩)
set_option maxHeartbeats 4000000 in
theorem x_alike (l : Launch) {X : xSt} {some_ : Int32} {d : Nat} (hd : d < 24) : Cq l yX0_alike cX0_alike 7 (some .int) 1 [.ref 0, .int some_, .int (nI d)] (wX X) (some (.int (akM X some_ d))) := by
  refine Cq_start (ls := [some (.ref 0), some (.int some_), some (.int (nI d)), none, none, none, none]) (by decide) rfl (Nat.le_of_ble_eq_true rfl) ?_
  intro Q hQ
  have L : ∀ (j a : Nat) (m : Int32), a + j = 10 → itA (akH X some_ d) j a m = akM X some_ d → V l (yX0_alike.cls, cX0_alike, 7, (some .int), [], yX0_alike.name) (rmD 1 0 0, xF0, Q, xX0) 5 [some (.ref 0), some (.int some_), some (.int (nI d)), some (.int m), some (.int (nI a)), none, none] [] (wX X) 0 0 := by
    intro j
    induction j with
    | zero =>
      intro a m hij hR
      refine V_iload dX0_alike_5 rfl ?_
      refine V_bipush dX0_alike_7 lb_10 ?_
      refine V_icmp_geN (tgt := 93) dX0_alike_9 (by decide) (by omega) (by omega) (fun c9 => ?_) (fun c9 => ?_)
      · refine V_iload_n dX0_alike_93 rfl ?_
        exact V_ireturn dX0_alike_94 rfl (by have hR : m = _ := hR; rw [hR]; exact hQ)
      · exact absurd c9 (by omega)
    | succ j ih =>
      intro a m hij hR
      have M : ∀ (j2 b : Nat) (n : Int32), b + j2 = 10 → itA (akG X some_ d a) j2 b n = akC X some_ d a → V l (yX0_alike.cls, cX0_alike, 7, (some .int), [], yX0_alike.name) (rmD 1 0 0, xF0, Q, xX0) 18 [some (.ref 0), some (.int some_), some (.int (nI d)), some (.int m), some (.int (nI a)), some (.int n), some (.int (nI b))] [] (wX X) 0 0 := by
        intro j2
        induction j2 with
        | zero =>
          intro b n hib hR2
          refine V_iload dX0_alike_18 rfl ?_
          refine V_bipush dX0_alike_20 lb_10 ?_
          refine V_icmp_geN (tgt := 80) dX0_alike_22 (by decide) (by omega) (by omega) (fun c22 => ?_) (fun c22 => ?_)
          · refine V_iload dX0_alike_80 rfl ?_
            refine V_iload_n dX0_alike_82 rfl ?_
            refine V_mmax dX0_alike_83 q816 q479 q109 q480 ⟨Nat.le_of_ble_eq_true rfl, Nat.le_of_ble_eq_true rfl⟩ (Nat.le_of_ble_eq_true rfl) ?_
            rw [max_ak]
            refine V_istore_n dX0_alike_86 rfl (Nat.le_of_ble_eq_true rfl) (Nat.le_of_ble_eq_true rfl) ?_
            refine V_iinc dX0_alike_87 rfl (iinc_1 _) rfl (Nat.le_of_ble_eq_true rfl) ?_
            refine V_goto (tgt := 5) dX0_alike_90 (by decide) ?_
            refine V_forget 5 ?_
            refine V_forget 6 ?_
            refine ih (a + 1) _ (by omega) ?_
            have hR2 : n = akC X some_ d a := hR2
            rw [← hR, hR2]
            rfl
          · exact absurd c22 (by omega)
        | succ j2 ihh =>
          intro b n hib hR2
          refine V_iload dX0_alike_18 rfl ?_
          refine V_bipush dX0_alike_20 lb_10 ?_
          refine V_icmp_geN (tgt := 80) dX0_alike_22 (by decide) (by omega) (by omega) (fun c22 => ?_) (fun c22 => ?_)
          · exact absurd c22 (by omega)
          · refine V_iload dX0_alike_25 rfl ?_
            refine V_iload_n dX0_alike_27 rfl ?_
            refine V_iload dX0_alike_28 rfl ?_
            refine Vs_callIF (s_isIn l _ _) dX0_alike_30 (lw_S q818 q819 q95 q820) hs_X0_isIn (by decide) rfl (Nat.le_of_ble_eq_true rfl) ?_
            refine V_if_eqB (tgt := 70) dX0_alike_33 (by decide) (fun c33 => ?_) (fun c33 => ?_)
            · refine V_iconst dX0_alike_70 li_0 ?_
              refine V_iadd dX0_alike_71 ?_
              refine V_istore dX0_alike_72 rfl (Nat.le_of_ble_eq_true rfl) (Nat.le_of_ble_eq_true rfl) ?_
              refine V_iinc dX0_alike_74 rfl (iinc_1 _) rfl (Nat.le_of_ble_eq_true rfl) ?_
              refine V_goto (tgt := 18) dX0_alike_77 (by decide) ?_
              exact ihh (b + 1) _ (by omega) (by rw [← hR2]; show itA _ j2 (b + 1) _ = itA _ j2 (b + 1) _; congr 1; unfold akG akV; rw [if_neg c33])
            · refine V_iload_n dX0_alike_36 rfl ?_
              refine V_iload dX0_alike_37 rfl ?_
              refine Vs_callIF (s_isIn l _ _) dX0_alike_39 (lw_S q818 q819 q95 q820) hs_X0_isIn (by decide) rfl (Nat.le_of_ble_eq_true rfl) ?_
              refine V_if_eqB (tgt := 70) dX0_alike_42 (by decide) (fun c42 => ?_) (fun c42 => ?_)
              · refine V_iconst dX0_alike_70 li_0 ?_
                refine V_iadd dX0_alike_71 ?_
                refine V_istore dX0_alike_72 rfl (Nat.le_of_ble_eq_true rfl) (Nat.le_of_ble_eq_true rfl) ?_
                refine V_iinc dX0_alike_74 rfl (iinc_1 _) rfl (Nat.le_of_ble_eq_true rfl) ?_
                refine V_goto (tgt := 18) dX0_alike_77 (by decide) ?_
                exact ihh (b + 1) _ (by omega) (by rw [← hR2]; show itA _ j2 (b + 1) _ = itA _ j2 (b + 1) _; congr 1; unfold akG akV; rw [if_pos c33, if_neg c42])
              · refine V_aload_n dX0_alike_45 rfl ?_
                refine V_getf (i := 19) k_X0 dX0_alike_46 (by decide) q246 (wX_obj _) rfl ?_
                refine V_iload dX0_alike_49 rfl ?_
                refine Vx_aa_hads dX0_alike_51 rfl (by omega) ?_
                refine V_iload_n dX0_alike_52 rfl ?_
                refine Vx_ld_had dX0_alike_53 (by omega) rfl (by omega) ?_
                refine V_aload_n dX0_alike_54 rfl ?_
                refine V_getf (i := 19) k_X0 dX0_alike_55 (by decide) q246 (wX_obj _) rfl ?_
                refine V_iload dX0_alike_58 rfl ?_
                refine Vx_aa_hads dX0_alike_60 rfl (by omega) ?_
                refine V_iload_n dX0_alike_61 rfl ?_
                refine Vx_ld_had dX0_alike_62 (by omega) rfl (by omega) ?_
                refine V_icmp_ne (tgt := 70) dX0_alike_63 (by decide) (fun c63 => ?_) (fun c63 => ?_)
                · refine V_iconst dX0_alike_70 li_0 ?_
                  refine V_iadd dX0_alike_71 ?_
                  refine V_istore dX0_alike_72 rfl (Nat.le_of_ble_eq_true rfl) (Nat.le_of_ble_eq_true rfl) ?_
                  refine V_iinc dX0_alike_74 rfl (iinc_1 _) rfl (Nat.le_of_ble_eq_true rfl) ?_
                  refine V_goto (tgt := 18) dX0_alike_77 (by decide) ?_
                  exact ihh (b + 1) _ (by omega) (by rw [← hR2]; show itA _ j2 (b + 1) _ = itA _ j2 (b + 1) _; congr 1; unfold akG akV; rw [if_pos c33, if_pos c42, if_neg c63])
                · refine V_iconst dX0_alike_66 li_1 ?_
                  refine V_goto (tgt := 71) dX0_alike_67 (by decide) ?_
                  refine V_iadd dX0_alike_71 ?_
                  refine V_istore dX0_alike_72 rfl (Nat.le_of_ble_eq_true rfl) (Nat.le_of_ble_eq_true rfl) ?_
                  refine V_iinc dX0_alike_74 rfl (iinc_1 _) rfl (Nat.le_of_ble_eq_true rfl) ?_
                  refine V_goto (tgt := 18) dX0_alike_77 (by decide) ?_
                  exact ihh (b + 1) _ (by omega) (by rw [← hR2]; show itA _ j2 (b + 1) _ = itA _ j2 (b + 1) _; congr 1; unfold akG akV; rw [if_pos c33, if_pos c42, if_pos c63])
      refine V_iload dX0_alike_5 rfl ?_
      refine V_bipush dX0_alike_7 lb_10 ?_
      refine V_icmp_geN (tgt := 93) dX0_alike_9 (by decide) (by omega) (by omega) (fun c9 => ?_) (fun c9 => ?_)
      · exact absurd c9 (by omega)
      · refine V_iconst dX0_alike_12 li_0 ?_
        refine V_istore dX0_alike_13 rfl (Nat.le_of_ble_eq_true rfl) (Nat.le_of_ble_eq_true rfl) ?_
        refine V_iconst dX0_alike_15 li_0 ?_
        refine V_istore dX0_alike_16 rfl (Nat.le_of_ble_eq_true rfl) (Nat.le_of_ble_eq_true rfl) ?_
        exact M 10 0 (nI 0) (by decide) rfl
  refine V_iconst dX0_alike_0 li_0 ?_
  refine V_istore_n dX0_alike_1 rfl (Nat.le_of_ble_eq_true rfl) (Nat.le_of_ble_eq_true rfl) ?_
  refine V_iconst dX0_alike_2 li_0 ?_
  refine V_istore dX0_alike_3 rfl (Nat.le_of_ble_eq_true rfl) (Nat.le_of_ble_eq_true rfl) ?_
  exact L 10 0 (nI 0) (by decide) rfl
set_option maxHeartbeats 4000000 in
theorem x_askOf (l : Launch) {R X : xSt} (h : PT R X) (hS : SV R) (hf0 : X 47 0 = nI 1) {k : Nat} (hk : k < vN (R 2 0)) : Cx l yX0_askOf (ws_ yX0_askOf cX0_askOf 5 (some .int)) 23 [.ref 0, .int (nI k)] X (fun r X' => ∃ x, r = some (.int x) ∧ x = (askF k R).1 ∧ PT R X' ∧ FV X X') := by
  refine Cz_start (ls := [some (.ref 0), some (.int (nI k)), none, none, none]) (by decide) rfl (Nat.le_of_ble_eq_true rfl) fF_lo ?_
  intro Q hQ
  have p2 := bd_v h.1.2.2.2.2.1.1 (by decide)
  have hl := h.1.1.2.1
  have s0 := (h.1.2.2.2.2.2.2.1.resolve_right (fun z => by rw [hf0] at z; exact absurd z.1 (by decide +kernel))).2
  have c0 : cnt X 0 = vN (R 2 0) := by unfold cnt; rw [show szr 0 = 2 from rfl, s0.1]
  have d0 : k < std X 0 := by rw [h.1.1.2.2.2.2.2.2.2.1 0 (by decide) (by decide), c0]; exact hk
  have y0 := s0.2 k hk
  have tb := h.1.2.2.2.2.2.1.1 k hk
  have hask := askF_1 k R
  have hz := x_sizesOf l h hS hf0 hk
  generalize sizesF k R = Z at hz hask
  have L : ∀ (X2 : xSt), PT R X2 → FV X X2 → (∀ d, d < 24 → ∀ bits, akM X2 bits d = akM Z.2 bits d) → ∀ (j i bb : Nat), i + j = 24 → bb < 24 → akK Z.2 Z.1 j i (nI bb) (akM Z.2 Z.1 bb) = askV Z.1 Z.2 → V l (yX0_askOf.cls, cX0_askOf, 5, (some .int), [], yX0_askOf.name) (rmD 23 (rc X) (rs X), fF X, Q, xX0) 11 [some (.ref 0), some (.int (nI k)), some (.int Z.1), some (.int (nI bb)), some (.int (nI i))] [] (wX X2) 0 0 := by
    intro X2 g1 g2 g3 j
    induction j with
    | zero =>
      intro i bb hij hb hR
      refine V_iload dX0_askOf_11 rfl ?_
      refine V_bipush dX0_askOf_13 lb_24 ?_
      refine V_icmp_geN (tgt := 47) dX0_askOf_15 (by decide) (by omega) (by omega) (fun c15 => ?_) (fun c15 => ?_)
      · refine V_iload_n dX0_askOf_47 rfl ?_
        exact V_ireturn dX0_askOf_48 rfl (hQ _ _ ⟨_, rfl, ⟨by rw [hask]; exact hR, g1, g2⟩⟩)
      · exact absurd c15 (by omega)
    | succ j ih =>
      intro i bb hij hb hR
      refine V_iload dX0_askOf_11 rfl ?_
      refine V_bipush dX0_askOf_13 lb_24 ?_
      refine V_icmp_geN (tgt := 47) dX0_askOf_15 (by decide) (by omega) (by omega) (fun c15 => ?_) (fun c15 => ?_)
      · exact absurd c15 (by omega)
      · refine V_aload_n dX0_askOf_18 rfl ?_
        refine V_iload_n dX0_askOf_19 rfl ?_
        refine V_iload dX0_askOf_20 rfl ?_
        refine Vq_v (x_alike l (X := X2) (some_ := Z.1) (show i < 24 by omega)) dX0_askOf_22 (lw_V q987 q989 qs34 q95 q990) hv_X0_alike (by decide) (wX_obj _) cl_X0 rfl rfl (Nat.le_of_ble_eq_true rfl) ?_
        rw [g3 i (by omega)]
        refine V_aload_n dX0_askOf_25 rfl ?_
        refine V_iload_n dX0_askOf_26 rfl ?_
        refine V_iload_n dX0_askOf_27 rfl ?_
        refine Vq_v (x_alike l (X := X2) (some_ := Z.1) hb) dX0_askOf_28 (lw_V q987 q989 qs34 q95 q990) hv_X0_alike (by decide) (wX_obj _) cl_X0 rfl rfl (Nat.le_of_ble_eq_true rfl) ?_
        rw [g3 bb hb]
        refine V_icmp_ge (tgt := 39) dX0_askOf_31 (by decide) (fun c31 => ?_) (fun c31 => ?_)
        · refine V_iload_n dX0_askOf_39 rfl ?_
          refine V_istore_n dX0_askOf_40 rfl (Nat.le_of_ble_eq_true rfl) (Nat.le_of_ble_eq_true rfl) ?_
          refine V_iinc dX0_askOf_41 rfl (iinc_1 _) rfl (Nat.le_of_ble_eq_true rfl) ?_
          refine V_goto (tgt := 11) dX0_askOf_44 (by decide) ?_
          exact ih (i + 1) bb (by omega) (by omega) (by rw [← hR, akK_s, if_neg (nI_nm bb (by omega)), if_pos c31])
        · refine V_iload dX0_askOf_34 rfl ?_
          refine V_goto (tgt := 40) dX0_askOf_36 (by decide) ?_
          refine V_istore_n dX0_askOf_40 rfl (Nat.le_of_ble_eq_true rfl) (Nat.le_of_ble_eq_true rfl) ?_
          refine V_iinc dX0_askOf_41 rfl (iinc_1 _) rfl (Nat.le_of_ble_eq_true rfl) ?_
          refine V_goto (tgt := 11) dX0_askOf_44 (by decide) ?_
          exact ih (i + 1) i (by omega) (by omega) (by rw [← hR, akK_s, if_neg (nI_nm bb (by omega)), if_neg c31])
  refine V_aload_n dX0_askOf_0 rfl ?_
  refine V_iload_n dX0_askOf_1 rfl ?_
  refine Vz_wI (k' := 0) (n' := 0) hz dX0_askOf_2 (lw_VW q970 q972 qs31 q95 q973) hv_X0_sizesOf (by decide) (wX_obj _) cl_X0 rfl rfl (Nat.le_of_ble_eq_true rfl) (fun _ z => z) (okl_c (ok_r (fF_ok (.inl (Nat.le_of_ble_eq_true rfl)))) (okl_c ok_i (okl_n (okl_n (okl_n okl_0))))) oks_0 ⟨Nat.le_refl _, Nat.le_refl _⟩ (fun x2 X2 h2 => ?_)
  obtain ⟨ex, g1, g2, g4, g3⟩ := h2
  rw [ex]
  refine V_istore_n dX0_askOf_5 rfl (Nat.le_of_ble_eq_true rfl) (Nat.le_of_ble_eq_true rfl) ?_
  refine V_iconst dX0_askOf_6 li_0 ?_
  refine V_istore_n dX0_askOf_7 rfl (Nat.le_of_ble_eq_true rfl) (Nat.le_of_ble_eq_true rfl) ?_
  refine V_iconst dX0_askOf_8 li_1 ?_
  refine V_istore dX0_askOf_9 rfl (Nat.le_of_ble_eq_true rfl) (Nat.le_of_ble_eq_true rfl) ?_
  refine L X2 g1 g2 (fun d hd bits => akM_c (fun u hu => g3 u d hu hd) bits) 23 1 0 (by decide) (by decide) ?_
  exact ((akK_s Z.2 Z.1 23 0 (-1) (nI 0)).trans (if_pos rfl)).symm
