/-! PromiseTailor's side: what a promise tells -/
set_option maxRecDepth 100000
def itQ (f : Nat → Int64 → xSt → xQ) : Nat → Nat → Int64 → xSt → xQ
  | 0, _, h, S => (h, S)
  | j + 1, i, h, S => itQ f j (i + 1) (f i h S).1 (f i h S).2
theorem itQ_s (f : Nat → Int64 → xSt → xQ) (j i : Nat) (h : Int64) (S : xSt) : itQ f (j + 1) i h S = itQ f j (i + 1) (f i h S).1 (f i h S).2 := rfl
theorem itQ_0 (f : Nat → Int64 → xSt → xQ) (i : Nat) (h : Int64) (S : xSt) : itQ f 0 i h S = (h, S) := rfl
def fDue (p i : Nat) (h : Int64) (S : xSt) : xQ := (mx h (dueF p (nI i) (asToldF S)).1, (dueF p (nI i) (asToldF S)).2)
theorem pdF_it (p : Nat) (h : Int64) (S : xSt) : pdF p h S = itQ (fDue p) 2 0 (mx (mx (pd4 p h S) (RT S 32 (12 * 8 + p))) (RT (RT S) 32 (12 * 23 + p))) (RT (RT S)) := by
  rw [itQ_s, itQ_s, itQ_0]
  unfold pdF pdF0 pdF1 pdF2 pdF3 fDue
  rfl
theorem CO_it {f : Nat → Int64 → xSt → xQ} (hf : ∀ i h S, MI S → CO S (f i h S).2) : ∀ j i h S, MI S → CO S (itQ f j i h S).2
  | 0, _, _, _, hS => CO_rf hS
  | j + 1, i, h, S, hS => by
    rw [itQ_s]
    exact CO_tr (hf i h S hS) (CO_it hf j _ _ _ (hf i h S hS).1)
theorem SE_it {f : Nat → Int64 → xSt → xQ} (hf : ∀ i h S, MI S → CO S (f i h S).2 ∧ SE (f i h S).2) : ∀ j i h S, MI S → SE S → SE (itQ f j i h S).2
  | 0, _, _, _, _, e => e
  | j + 1, i, h, S, hS, _ => by
    rw [itQ_s]
    exact SE_it hf j _ _ _ (hf i h S hS).1.1 (hf i h S hS).2
theorem CO_fDue (p i : Nat) (h : Int64) (S : xSt) (hS : MI S) : CO S (fDue p i h S).2 ∧ SE (fDue p i h S).2 := by unfold fDue; dsimp only; exact ⟨CO_du hS, SE_du hS _ _⟩
theorem CO_pd (p : Nat) (h : Int64) {S : xSt} (hS : MI S) : CO S (pdF p h S).2 ∧ SE (pdF p h S).2 := by
  have c1 := CO_RT hS
  have c2 := CO_RT c1.1
  rw [pdF_it]
  exact ⟨CO_tr (CO_tr c1 c2) (CO_it (fun i h S hS => (CO_fDue p i h S hS).1) _ _ _ _ c2.1), SE_it (CO_fDue p) _ _ _ _ c2.1 (SE_RT c1.1)⟩
theorem CO_5 {A B : xSt} (c : CO A B) : asToldF B 5 0 = asToldF A 5 0 ∧ asToldF B 2 0 = asToldF A 2 0 := by
  have ha : AP (asToldF A) (asToldF B) := told_AP (fun j hj => c.2 j (CR_cj hj))
  exact ⟨ha.2.2.1, ha.2.1⟩
theorem SE_5 {S : xSt} (e : SE S) : S 5 0 = asToldF S 5 0 ∧ S 2 0 = asToldF S 2 0 := ⟨e.2.2.1, e.2.1⟩
theorem fF_FR {X Y : xSt} (h : FRS Y) : ∀ n, fF Y n → fF X n := fun n z => by
  unfold fF at z ⊢
  rcases z with z | z | z
  · exact absurd h.1 z.1
  · exact absurd h.2 z.1
  · exact .inr (.inr z)
theorem FRS_FV {X Y : xSt} (h : FRS X) (v : FV X Y) : FRS Y := ⟨v.2.2.1 h.1, v.2.2.2 h.2⟩
theorem mx_e (h : Int64) (x : Int32) : 31 * h + x.toInt64 = mx h x := rfl

set_option maxHeartbeats 1000000 in
theorem x_tellsPromise (l : Launch) {G X : xSt} (h0 : XR G X) (hM : MI G) (hF : FRS X) (hE : SE G) (h : Int64) {p : Nat} (hp : p < vN (asToldF G 5 0)) : Cx l yX0_tellsPromise (ws_ yX0_tellsPromise cX0_tellsPromise 7 (some .long)) 22 [.ref 0, .long h, .int (nI p)] X (fun r X' => ∃ x, r = some (.long x) ∧ x = (pdF p h G).1 ∧ XR (pdF p h G).2 X' ∧ FRS X') := by
  refine Cz_start (ls := [some (.ref 0), some (.long h), none, some (.int (nI p)), none, none, none]) (by decide) rfl (Nat.le_of_ble_eq_true rfl) fF_lo ?_
  intro Q hQ
  have hN := bd_v (PV_asTold hM).2.1 (by decide)
  rw [pdF_it] at hQ
  generalize hRR : itQ (fDue p) 2 0 _ _ = R at hQ
  have hM1 := (CO_RT hM).1
  have hM2 := (CO_RT hM1).1
  have L92 : ∀ (j : Nat) (i : Nat) (a : Int64) (S X1 : xSt) (hij : i + j = 2) (hX : XR S X1) (hMS : MI S) (hF1 : FRS X1) (hp1 : p < vN (asToldF S 5 0)) (hR : itQ (fDue p) j i a S = R), V l (yX0_tellsPromise.cls, cX0_tellsPromise, 7, (some .long), [], yX0_tellsPromise.name) (rmD 22 (rc X) (rs X), fF X, Q, xX0) 92 [some (.ref 0), some (.long h), none, some (.int (nI p)), some (.long a), none, some (.int (nI i))] [] (wX X1) 0 0 := by
    intro j
    induction j with
    | zero =>
      intro i a S X1 hij hX hMS hF1 hp1 hR
      refine V_iload dX0_tellsPromise_92 rfl ?_
      refine V_iconst dX0_tellsPromise_94 li_2 ?_
      refine V_icmp_ge (tgt := 121) dX0_tellsPromise_95 (by decide) (fun _ => ?_) (fun c95 => absurd (nI_le (by omega) (by omega)) c95)
      refine V_lload dX0_tellsPromise_121 rfl ?_
      exact V_lreturn dX0_tellsPromise_123 rfl (hQ _ _ ⟨_, rfl, ⟨by rw [← hR, itQ_0], by rw [← hR, itQ_0]; exact hX, hF1⟩⟩)
    | succ j ih =>
      intro i a S X1 hij hX hMS hF1 hp1 hR
      refine V_iload dX0_tellsPromise_92 rfl ?_
      refine V_iconst dX0_tellsPromise_94 li_2 ?_
      refine V_icmp_ge (tgt := 121) dX0_tellsPromise_95 (by decide) (fun c95 => absurd c95 (nI_ge (by omega) (by omega))) (fun _ => ?_)
      refine V_ldc2 dX0_tellsPromise_98 q1144 ?_
      refine V_lload dX0_tellsPromise_101 rfl ?_
      refine V_lmul dX0_tellsPromise_103 ?_
      refine V_aload_n dX0_tellsPromise_104 rfl ?_
      refine V_iload_n dX0_tellsPromise_105 rfl ?_
      refine V_iload dX0_tellsPromise_106 rfl ?_
      refine Vz_wI (k' := 0) (n' := 0) (x_dueOf l hX.1 hF1.2 (p := p) (what := nI i) hp1) dX0_tellsPromise_108 (lw_VW q923 q925 qs25 q95 q926) hv_X0_dueOf (by decide) (wX_obj _) cl_X0 rfl rfl (Nat.le_of_ble_eq_true rfl) (fF_FR hF1) (okl_c (ok_r (fF_ok (.inl (Nat.le_of_ble_eq_true rfl)))) (okl_c ok_l (okl_n (okl_c ok_i (okl_c ok_l (okl_n (okl_c ok_i okl_0))))))) (oks_c ok_l oks_0) ⟨by rw [(rc_0 hF1).1]; exact Nat.zero_le _, by rw [(rc_0 hF1).2]; exact Nat.zero_le _⟩ (fun x3 X3 h3 => ?_)
      obtain ⟨e3, h4, h5⟩ := h3
      have hC := CO_du hMS (p := p) (what := nI i)
      have hX3 := CO_XR (XR_FV hX h4 h5) hC
      refine V_i2l dX0_tellsPromise_111 rfl ?_
      refine V_ladd dX0_tellsPromise_112 ?_
      refine V_lstore dX0_tellsPromise_113 rfl (Nat.le_of_ble_eq_true rfl) (Nat.le_of_ble_eq_true rfl) ?_
      refine V_iinc dX0_tellsPromise_115 rfl (iinc_1 _) rfl (Nat.le_of_ble_eq_true rfl) ?_
      refine V_goto (tgt := 92) dX0_tellsPromise_118 (by decide) ?_
      exact ih (i + 1) _ _ X3 (by omega) hX3 hC.1 (FRS_FV hF1 h5) (by rw [(CO_5 hC).1]; exact hp1) (by rw [← hR, itQ_s, e3, mx_e]; unfold fDue; dsimp only)
  refine V_aload_n dX0_tellsPromise_0 rfl ?_
  refine Vz_vV (k' := 0) (n' := 0) (x_find l h0.1.1) dX0_tellsPromise_1 (lw_V q789 q791 qs9 q95 q792) hv_X0_find (by decide) (wX_obj _) cl_X0 rfl rfl (Nat.le_of_ble_eq_true rfl) (fun _ z => z) (okl_c (ok_r (fF_ok (.inl (Nat.le_of_ble_eq_true rfl)))) (okl_c ok_l (okl_n (okl_c ok_i (okl_n (okl_n (okl_n okl_0))))))) oks_0 ⟨Nat.le_refl _, Nat.le_refl _⟩ (fun X2 h2 => ?_)
  have hR1 := XR_find h0 h2.1 h2.2.2
  have hQ2 : RQ (RT G) X2 := by unfold RT; exact RQ_of h2.1 h2.2.1
  obtain ⟨hl, c0, d0, c1, d1, n2, b2, n5, b5, m2, m5, y0, y1⟩ := RD_x h2.1.1 h2.1.2.1
  have hR3 := CO_XR hR1 (CO_RT hM)
  have hQ3 := RQ_mv hQ2 hR3 hM (CO_RT hM)
  have hR4 := CO_XR hR3 (CO_RT hM1)
  have f5 : runsF (asToldF G) 5 0 = asToldF G 5 0 := congrFun (runsF_fr _ 5 (by omega)) 0
  have f2 : runsF (asToldF G) 2 0 = asToldF G 2 0 := congrFun (runsF_fr _ 2 (by omega)) 0
  have hF2 : FRS X2 := h2.1.2.1
  rw [f2] at c0 d0
  rw [f5] at c1 d1
  have z1 := y1.2 p (by rw [f5]; exact hp)
  rw [runsF_fr _ 6 (by omega), runsF_fr _ 7 (by omega), runsF_fr _ 8 (by omega), runsF_fr _ 9 (by omega)] at z1
  have z2 := hE.2.2.2.2 p hp
  have hr5 : p < vN (RT G 5 0) := by unfold RT; rw [f5]; exact hp
  have hr6 : p < vN (RT (RT G) 5 0) := by have e := (CO_5 (CO_RT hM)).1; have e2 : RT (RT G) 5 0 = asToldF (RT G) 5 0 := congrFun (RT_fr (RT G) 5 (by omega)) 0; rw [e2, e]; exact hp
  have hp4 : p < vN (asToldF (RT (RT G)) 5 0) := by rw [(CO_5 (CO_RT hM1)).1, (CO_5 (CO_RT hM)).1]; exact hp
  have L51 : V l (yX0_tellsPromise.cls, cX0_tellsPromise, 7, (some .long), [], yX0_tellsPromise.name) (rmD 22 (rc X) (rs X), fF X, Q, xX0) 51 [some (.ref 0), some (.long h), none, some (.int (nI p)), some (.long (pd4 p h G)), none, some (.int (nI 4))] [] (wX X2) 0 0 := by
    refine V_ldc2 dX0_tellsPromise_51 q1144 ?_
    refine V_lload dX0_tellsPromise_54 rfl ?_
    refine V_lmul dX0_tellsPromise_56 ?_
    refine V_aload_n dX0_tellsPromise_57 rfl ?_
    refine V_getf (i := 11) k_X0 dX0_tellsPromise_58 (by decide) q238 (wX_obj _) rfl ?_
    refine V_bipush dX0_tellsPromise_61 lb_8 ?_
    refine Vx_aa_statesBy dX0_tellsPromise_63 rfl (by decide) ?_
    refine V_iload_n dX0_tellsPromise_64 rfl ?_
    refine Vx_ld_srow dX0_tellsPromise_65 (by decide) rfl (by omega) ?_
    rw [RQ_32 hQ2 (show 8 < 24 by decide) hr5]
    refine V_i2l dX0_tellsPromise_66 rfl ?_
    refine V_ladd dX0_tellsPromise_67 ?_
    refine V_lstore dX0_tellsPromise_68 rfl (Nat.le_of_ble_eq_true rfl) (Nat.le_of_ble_eq_true rfl) ?_
    refine V_ldc2 dX0_tellsPromise_70 q1144 ?_
    refine V_lload dX0_tellsPromise_73 rfl ?_
    refine V_lmul dX0_tellsPromise_75 ?_
    refine V_aload_n dX0_tellsPromise_76 rfl ?_
    refine V_getf (i := 11) k_X0 dX0_tellsPromise_77 (by decide) q238 (wX_obj _) rfl ?_
    refine V_bipush dX0_tellsPromise_80 lb_23 ?_
    refine Vx_aa_statesBy dX0_tellsPromise_82 rfl (by decide) ?_
    refine V_iload_n dX0_tellsPromise_83 rfl ?_
    refine Vx_ld_srow dX0_tellsPromise_84 (by decide) rfl (by omega) ?_
    rw [RQ_32 hQ3 (show 23 < 24 by decide) hr6]
    refine V_i2l dX0_tellsPromise_85 rfl ?_
    refine V_ladd dX0_tellsPromise_86 ?_
    refine V_lstore dX0_tellsPromise_87 rfl (Nat.le_of_ble_eq_true rfl) (Nat.le_of_ble_eq_true rfl) ?_
    refine V_iconst dX0_tellsPromise_89 li_0 ?_
    refine V_istore dX0_tellsPromise_90 rfl (Nat.le_of_ble_eq_true rfl) (Nat.le_of_ble_eq_true rfl) ?_
    exact L92 2 0 _ _ X2 rfl hR4 hM2 hF2 hp4 hRR
  have L10 : ∀ (j : Nat) (i : Nat) (a : Int64) (hij : i + j = 4) (hA : itH (pdI G p) j i a = pd4 p h G), V l (yX0_tellsPromise.cls, cX0_tellsPromise, 7, (some .long), [], yX0_tellsPromise.name) (rmD 22 (rc X) (rs X), fF X, Q, xX0) 10 [some (.ref 0), some (.long h), none, some (.int (nI p)), some (.long a), none, some (.int (nI i))] [] (wX X2) 0 0 := by
    intro j
    induction j with
    | zero =>
      intro i a hij hA
      refine V_iload dX0_tellsPromise_10 rfl ?_
      refine V_iconst dX0_tellsPromise_12 li_4 ?_
      refine V_icmp_ge (tgt := 51) dX0_tellsPromise_13 (by decide) (fun _ => ?_) (fun c13 => absurd (nI_le (by omega) (by omega)) c13)
      have hA : a = _ := hA
      rw [hA, show i = 4 from by omega]
      exact L51
    | succ j ih =>
      intro i a hij hA
      refine V_iload dX0_tellsPromise_10 rfl ?_
      refine V_iconst dX0_tellsPromise_12 li_4 ?_
      refine V_icmp_ge (tgt := 51) dX0_tellsPromise_13 (by decide) (fun c13 => absurd c13 (nI_ge (by omega) (by omega))) (fun _ => ?_)
      refine V_ldc2 dX0_tellsPromise_16 q1144 ?_
      refine V_lload dX0_tellsPromise_19 rfl ?_
      refine V_lmul dX0_tellsPromise_21 ?_
      refine V_aload_n dX0_tellsPromise_22 rfl ?_
      refine V_getf (i := 2) k_X0 dX0_tellsPromise_23 (by decide) q229 (wX_obj _) rfl ?_
      refine V_getfU (i := 6) k_X3 dX0_tellsPromise_26 (by decide) q177 q178 (wX_tx1 _) rfl ?_
      refine V_iload_n dX0_tellsPromise_29 rfl ?_
      refine V_get (q := 1) (hl 1 (by decide)) rfl (by omega) dX0_tellsPromise_30 (lw_V q665 q666 q667 q100 q668) (Nat.le_of_ble_eq_true rfl) (by decide) ?_
      rw [eln_1]
      refine V_castE dX0_tellsPromise_33 q711 (.inl ⟨_, _, _, _, (wX_pro _ (d := p) (by omega) (show p < std X2 1 by omega)), cl_X7, rfl⟩) ?_
      refine V_iload dX0_tellsPromise_36 rfl ?_
      refine Vq_v (x_qby l (wX_pro X2 (d := p) (by omega) (show p < std X2 1 by omega)) (what := nI i) ⟨i, by omega, rfl⟩) dX0_tellsPromise_38 (lw_V q712 q713 q714 q113 q715) hv_X7_by (by decide) (wX_pro _ (d := p) (by omega) (show p < std X2 1 by omega)) cl_X7 rfl rfl (Nat.le_of_ble_eq_true rfl) ?_
      refine V_i2l dX0_tellsPromise_41 rfl ?_
      refine V_ladd dX0_tellsPromise_42 ?_
      refine V_lstore dX0_tellsPromise_43 rfl (Nat.le_of_ble_eq_true rfl) (Nat.le_of_ble_eq_true rfl) ?_
      refine V_iinc dX0_tellsPromise_45 rfl (iinc_1 _) rfl (Nat.le_of_ble_eq_true rfl) ?_
      refine V_goto (tgt := 10) dX0_tellsPromise_48 (by decide) ?_
      exact ih (i + 1) _ (by omega) (by rw [← hA, itH_s]; unfold pdI; rw [mx_e]; unfold promiseV proV; rw [z1.1, z1.2.1, z1.2.2.1, z1.2.2.2, z2.1, z2.2.1, z2.2.2.1, z2.2.2.2])
  refine V_lload_n dX0_tellsPromise_4 rfl ?_
  refine V_lstore dX0_tellsPromise_5 rfl (Nat.le_of_ble_eq_true rfl) (Nat.le_of_ble_eq_true rfl) ?_
  refine V_iconst dX0_tellsPromise_7 li_0 ?_
  refine V_istore dX0_tellsPromise_8 rfl (Nat.le_of_ble_eq_true rfl) (Nat.le_of_ble_eq_true rfl) ?_
  exact L10 4 0 _ rfl rfl
