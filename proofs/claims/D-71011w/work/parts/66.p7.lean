/-! PromiseTailor's side: plans, sizes and sorts -/
set_option maxRecDepth 100000
def n38 (X Y : xSt) : Prop := ∀ r, r ≠ 38 → Y r = X r
theorem n38_rf (X : xSt) : n38 X X := fun _ _ => rfl
theorem n38_wr {X Y : xSt} {i : Nat} {v : Int32} (h : n38 X Y) : n38 X (mwr Y 38 i v) := fun r z => (mwr_R _ _ _ z).trans (h r z)
theorem n38_m {X Y : xSt} {j i : Nat} {v : Int32} (h : n38 X Y) : n38 (mwr X j i v) (mwr Y j i v) := fun r z => by
  funext q
  show (if r = j ∧ q = i then v else Y r q) = (if r = j ∧ q = i then v else X r q)
  rw [h r z]
theorem AP_n38 {T U : xSt} (h : n38 T U) : AP T U := ⟨fun j hj => h j (by unfold cj at hj; omega), by rw [h 2 (by decide)], by rw [h 5 (by decide)], fun k _ => by rw [h 3 (by decide), h 4 (by decide)]; exact ⟨rfl, rfl⟩, fun k _ => by rw [h 6 (by decide), h 7 (by decide), h 8 (by decide), h 9 (by decide)]; exact ⟨rfl, rfl, rfl, rfl⟩⟩
theorem PV_n38 {T U : xSt} (h : n38 T U) (g : PV T) : PV U := by
  unfold PV at *
  rw [h 2 (by decide), h 5 (by decide), h 6 (by decide), h 21 (by decide), h 22 (by decide), h 24 (by decide), h 13 (by decide), h 15 (by decide), h 17 (by decide), h 19 (by decide)]
  exact g
theorem XT_38 {T X U Y : xSt} (h : XT T X) (hT : n38 T U) (hX : n38 X Y) : XT U Y := by
  have N : ∀ r, nb r → r ≠ 38 := fun r z => by unfold nb at z; omega
  refine XT_g h (fun r z => hX r (N r z)) (fun r z => hT r (N r z)) (fun r a b => by rw [hT r (by omega)]) (PV_n38 hT h.2.2.2.2.1) ?_ ?_ ?_
  · have z := h.2.2.2.2.2.1
    unfold TB at *
    rw [hT 2 (by decide), hT 3 (by decide), hT 4 (by decide), hT 5 (by decide), hT 7 (by decide)]
    exact z
  · rcases h.2.2.2.2.2.2.1 with ⟨a, b⟩ | ⟨a, b⟩
    · refine .inl ⟨a, ?_⟩
      unfold sy0 at *
      rw [hT 2 (by decide), hT 3 (by decide), hT 4 (by decide), hX 2 (by decide), hX 3 (by decide), hX 4 (by decide)]
      exact b
    · exact .inr ⟨a, pr0_c (hT 0 (by decide)) (hT 1 (by decide)) (by rw [hT 2 (by decide)]) (fun k _ => by rw [hT 3 (by decide), hT 4 (by decide)]; exact ⟨rfl, rfl⟩) b⟩
  · rcases h.2.2.2.2.2.2.2.1 with ⟨a, b⟩ | ⟨a, b⟩
    · refine .inl ⟨a, ?_⟩
      unfold sy1 at *
      rw [hT 5 (by decide), hT 6 (by decide), hT 7 (by decide), hT 8 (by decide), hT 9 (by decide), hX 5 (by decide), hX 6 (by decide), hX 7 (by decide), hX 8 (by decide), hX 9 (by decide)]
      exact b
    · exact .inr ⟨a, pr1_c (hT 0 (by decide)) (hT 1 (by decide)) (by rw [hT 5 (by decide)]) (fun k _ => by rw [hT 6 (by decide), hT 7 (by decide), hT 8 (by decide), hT 9 (by decide)]; exact ⟨rfl, rfl, rfl, rfl⟩) b⟩
theorem FV_38 {X Y Z : xSt} (h : FV X Y) (g : n38 Y Z) : FV X Z := FV_tr h ⟨fun r hr => g r (by omega), fun r i a b => by rw [g r (by omega)], fun z => by rw [g 47 (by omega)]; exact z, fun z => by rw [g 47 (by omega)]; exact z⟩
theorem df_n38 {X Y : xSt} (g : n38 X Y) (h : df X) : df Y := by
  unfold df at *
  rw [g 45 (by decide), g 25 (by decide), g 26 (by decide)]
  exact h
theorem df_FW {X Y : xSt} (g : FW X Y) (h : df X) : df Y := by
  unfold df at *
  rw [g.1 45 (by omega), g.1 25 (by omega), g.1 26 (by omega)]
  exact h
theorem df_wr {X : xSt} {j i : Nat} {v : Int32} (hj : j < 25) (h : df X) : df (mwr X j i v) := by
  unfold df at *
  rw [mwr_R _ _ _ (show 45 ≠ j by omega), mwr_R _ _ _ (show 25 ≠ j by omega), mwr_R _ _ _ (show 26 ≠ j by omega)]
  exact h
/-- rows by sizes, told so far -/
def HD (v e : Nat) (T X : xSt) : Prop := ∀ u d, d < 24 → (u < v ∨ (u = v ∧ d < e)) → X 38 (24 * u + d) = T 38 (24 * u + d)
theorem HD_st {v e k : Nat} {T X : xSt} {x : Int32} (h : HD v e T X) : HD v (e + 1) (mwr T 38 (24 * v + e) x) (mwr X 38 (24 * v + e) x) := by
  intro u d hd hu
  by_cases a : 24 * u + d = 24 * v + e
  · rw [a, mwr_s, mwr_s]
  · rw [mwr_q _ _ _ _ a, mwr_q _ _ _ _ a]
    exact h u d hd (by omega)
theorem soN_n : ∀ v, v < 3 → soN (nI v) = 901 + v := by decide +kernel
theorem SV_34 {T U : xSt} (h : ∀ r, 33 < r → r < 38 → U r = T r) (g : SV T) : SV U := SV_eq ⟨h 34 (by decide) (by decide), h 35 (by decide) (by decide), h 36 (by decide) (by decide)⟩ g

set_option maxHeartbeats 4000000 in
theorem x_sizesOf (l : Launch) {R X : xSt} (h : PT R X) (hS : SV R) (hf0 : X 47 0 = nI 1) {k : Nat} (hk : k < vN (R 2 0)) : Cx l yX0_sizesOf (wsW_ yX0_sizesOf cX0_sizesOf 7 (some .int) [(23, 109, 117, 0), (117, 119, 117, 0)]) 22 [.ref 0, .int (nI k)] X (fun r X' => ∃ x, r = some (.int x) ∧ x = (sizesF k R).1 ∧ PT R X' ∧ FV X X' ∧ (X' 47 0 = nI 1 ∧ X' 47 1 = nI 1) ∧ ∀ u d, u < 10 → d < 24 → X' 38 (24 * u + d) = (sizesF k R).2 38 (24 * u + d)) := by
  refine Cz_startW (ls := [some (.ref 0), some (.int (nI k)), none, none, none, none, none]) (by decide) rfl (Nat.le_of_ble_eq_true rfl) fF_lo ?_
  intro Q hQ
  have p2 := bd_v h.1.2.2.2.2.1.1 (by decide)
  have hl := h.1.1.2.1
  have s0 := (h.1.2.2.2.2.2.2.1.resolve_right (fun z => by rw [hf0] at z; exact absurd z.1 (by decide +kernel))).2
  have c0 : cnt X 0 = vN (R 2 0) := by unfold cnt; rw [show szr 0 = 2 from rfl, s0.1]
  have d0 : k < std X 0 := by rw [h.1.1.2.2.2.2.2.2.2.1 0 (by decide) (by decide), c0]; exact hk
  have y0 := s0.2 k hk
  have tb := h.1.2.2.2.2.2.1.1 k hk
  have L : ∀ (j v : Nat) (a : Int32) (T1 X1 : xSt), v + j = 10 → XT (mwr T1 4 k (R 4 k)) (mwr X1 4 k (R 4 k)) → X1 4 k = nI v → X1 47 0 = nI 1 → (v = 0 ∨ X1 47 1 = nI 1) → AP R (mwr T1 4 k (R 4 k)) → PV T1 → SV T1 → FV X X1 → df X1 → k < std X1 0 → HD v 0 T1 X1 → szK k j v a T1 = szR k R → V l (yX0_sizesOf.cls, cX0_sizesOf, 7, (some .int), [(23, 109, 117, 0), (117, 119, 117, 0)], yX0_sizesOf.name) (rmD 22 (rc X) (rs X), fF X, Q, xX0) 28 [some (.ref 0), some (.int (nI k)), some (.ref (1088 + k)), some (.int (R 4 k)), some (.int a), none, none] [] (wX X1) (rc X1) (rs X1) := by
    intro j
    induction j with
    | zero =>
      intro v a T1 X1 hij hX h4 hf hf1 hA hP hSV hV hD hs hH hR
      have hR : (a, T1) = szR k R := hR
      have hV9 := FV_wr (j := 4) (i := k) (v := R 4 k) hV (by omega)
      have hpt : PT R (mwr X1 4 k (R 4 k)) := PT_back h hX hA hV9 (od_rf _) (df_wr (by decide) hD)
      refine V_aload_n dX0_sizesOf_28 rfl ?_
      refine V_getfN (i := 1) k_X8 dX0_sizesOf_29 (by decide) (nw q584 rfl) (wX_per _ (d := k) (by omega) hs) rfl ?_
      rw [h4]
      refine V_bipush dX0_sizesOf_32 lb_9 ?_
      refine V_icmp_gtN (tgt := 109) dX0_sizesOf_34 (by decide) (by omega) (by omega) (fun c34 => ?_) (fun c34 => ?_)
      · refine V_aload_n dX0_sizesOf_109 rfl ?_
        refine V_iload_n dX0_sizesOf_110 rfl ?_
        refine Vx_size dX0_sizesOf_111 (nw q584 rfl) (by omega) hs ?_
        refine V_goto (tgt := 127) dX0_sizesOf_114 (by decide) ?_
        refine V_iload dX0_sizesOf_127 rfl ?_
        exact V_ireturn dX0_sizesOf_129 rfl (hQ _ _ ⟨_, rfl, ⟨by unfold sizesF; rw [← hR], hpt, hV9, ⟨hf, hf1.resolve_left (fun z => by omega)⟩, fun u d hu hd => by unfold sizesF; rw [← hR]; exact hH u d hd (by omega)⟩⟩)
      · exact absurd c34 (by omega)
    | succ j ih =>
      intro v a T1 X1 hij hX h4 hf hf1 hA hP hSV hV hD hs hH hR
      have hX1 := XT_P (k := k) (v := nI v) (.inr rfl) hX hf (.inr ⟨rfl, bd_n (by omega)⟩)
      rw [mwr_mwr, mwr_mwr, mwr_eq h4] at hX1
      have hP2 : PV (mwr T1 4 k (nI v)) := PV_wr (by omega) hP
      have hS2 : SV (mwr T1 4 k (nI v)) := SV_wr (by omega) hSV
      have M : ∀ (X2 : xSt) (a2 : Int32), RD (runsF (mwr T1 4 k (nI v))) X2 → X2 55 0 = nI 24 → FW X1 X2 → szK k j (v + 1) a2 (szF k v (runsF (mwr T1 4 k (nI v)))) = szR k R → ∀ (j2 e : Nat) (T3 X3 : xSt), e + j2 = 24 → n38 (runsF (mwr T1 4 k (nI v))) T3 → n38 X2 X3 → HD v e T3 X3 → itF (szI k v) j2 e T3 = szF k v (runsF (mwr T1 4 k (nI v))) → V l (yX0_sizesOf.cls, cX0_sizesOf, 7, (some .int), [(23, 109, 117, 0), (117, 119, 117, 0)], yX0_sizesOf.name) (rmD 22 (rc X) (rs X), fF X, Q, xX0) 62 [some (.ref 0), some (.int (nI k)), some (.ref (1088 + k)), some (.int (R 4 k)), some (.int a2), some (.int (nI e)), none] [] (wX X3) 0 0 := by
        intro X2 a2 h2 h25 hW hR2
        have hV2 : FV X X2 := FV_tr hV (FV_FW hW)
        have h4b : X2 4 k = nI v := (congrFun (hW.2.2.1 hf 4 (by decide) (by decide)) k).trans h4
        have e5 : (runsF (mwr T1 4 k (nI v))) 2 0 = R 2 0 := (congrFun (runsF_fr _ 2 (by omega)) 0).trans ((mwr_r _ _ _ _ (by decide)).trans hA.2.1)
        obtain ⟨-, -, d1, -⟩ := RD_x h2.1 h2.2.1
        have hs2 : k < std X2 0 := by rw [d1, e5]; exact hk
        have hp8 : k < 8 := by omega
        intro j2
        induction j2 with
        | zero =>
          intro e T3 X3 he hT3 hX3 hH3 hR3
          have hT3e : T3 = szF k v (runsF (mwr T1 4 k (nI v))) := hR3
          have hs3 : k < std X3 0 := by unfold std; rw [hX3 54 (by decide)]; exact hs2
          have h4c : X3 4 k = nI v := by rw [hX3 4 (by decide)]; exact h4b
          have e0 := rc_0 (X := mwr X3 4 k (nI (v + 1))) ⟨by rw [mwr_R _ _ _ (show 47 ≠ 4 by decide), hX3 47 (by decide)]; exact h2.2.1.1, by rw [mwr_R _ _ _ (show 47 ≠ 4 by decide), hX3 47 (by decide)]; exact h2.2.1.2⟩
          refine V_iload dX0_sizesOf_62 rfl ?_
          refine V_bipush dX0_sizesOf_64 lb_24 ?_
          refine V_icmp_geN (tgt := 96) dX0_sizesOf_66 (by decide) (by omega) (by omega) (fun c66 => ?_) (fun c66 => ?_)
          · refine V_aload_n dX0_sizesOf_96 rfl ?_
            refine V_dup dX0_sizesOf_97 rfl ?_
            refine V_getfN (i := 1) k_X8 dX0_sizesOf_98 (by decide) (nw q584 rfl) (wX_per _ (d := k) (by omega) hs3) rfl ?_
            rw [h4c]
            refine V_iconst dX0_sizesOf_101 li_1 ?_
            refine V_iaddN dX0_sizesOf_102 ?_
            refine Vx_size dX0_sizesOf_103 (nw q584 rfl) (by omega) hs3 ?_
            refine V_goto (tgt := 28) dX0_sizesOf_106 (by decide) ?_
            refine V_forget 5 ?_
            have z := ih (v + 1) a2 T3 (mwr X3 4 k (nI (v + 1))) (by omega) ?_ (mwr_s _ _ _ _) ?_ ?_ ?_ ?_ ?_ ?_ ?_ ?_ ?_ ?_
            · rw [e0.1, e0.2] at z
              exact z
            · rw [mwr_mwr]
              exact XT_P (.inr rfl) (XT_38 h2.1 hT3 hX3) (by rw [hX3 47 (by decide)]; exact h2.2.1.1) (.inr ⟨rfl, tb.2⟩)
            · rw [mwr_R _ _ _ (show 47 ≠ 4 by decide), hX3 47 (by decide)]; exact h2.2.1.1
            · rw [mwr_R _ _ _ (show 47 ≠ 4 by decide), hX3 47 (by decide)]; exact .inr h2.2.1.2
            · exact AP_tr (mwr_run (by decide) hA) (AP_n38 (n38_m hT3))
            · exact PV_n38 hT3 (PV_fr (runsF_fr _) hP2)
            · exact SV_eq ⟨hT3 34 (by decide), hT3 35 (by decide), hT3 36 (by decide)⟩ (SV_run hS2)
            · exact FV_wr (FV_38 hV2 hX3) (by omega)
            · exact df_wr (by decide) (df_n38 hX3 (df_FW hW hD))
            · exact hs3
            · intro u d hd hu
              rw [mwr_r _ _ _ _ (show 38 ≠ 4 by decide)]
              exact hH3 u d hd (by omega)
            · rw [hT3e]; exact hR2
          · exact absurd c66 (by omega)
        | succ j2 ihh =>
          intro e T3 X3 he hT3 hX3 hH3 hR3
          have hs3 : k < std X3 0 := by unfold std; rw [hX3 54 (by decide)]; exact hs2
          have h4c : X3 4 k = nI v := by rw [hX3 4 (by decide)]; exact h4b
          have h30 : X3 30 (8 * e + k) = T3 30 (8 * e + k) := by rw [hX3 30 (by decide), hT3 30 (by decide)]; exact (RQ_30 (T := (runsF (mwr T1 4 k (nI v)))) ⟨h2, h25⟩ (show e < 24 by omega) (by rw [e5]; exact hk)).1
          refine V_iload dX0_sizesOf_62 rfl ?_
          refine V_bipush dX0_sizesOf_64 lb_24 ?_
          refine V_icmp_geN (tgt := 96) dX0_sizesOf_66 (by decide) (by omega) (by omega) (fun c66 => ?_) (fun c66 => ?_)
          · exact absurd c66 (by omega)
          · refine V_aload_n dX0_sizesOf_69 rfl ?_
            refine V_getf (i := 19) k_X0 dX0_sizesOf_70 (by decide) q246 (wX_obj _) rfl ?_
            refine V_aload_n dX0_sizesOf_73 rfl ?_
            refine V_getfN (i := 1) k_X8 dX0_sizesOf_74 (by decide) (nw q584 rfl) (wX_per _ (d := k) (by omega) hs3) rfl ?_
            rw [h4c]
            refine Vx_aa_hads dX0_sizesOf_77 rfl (by omega) ?_
            refine V_iload dX0_sizesOf_78 rfl ?_
            refine V_aload_n dX0_sizesOf_80 rfl ?_
            refine V_getf (i := 9) k_X0 dX0_sizesOf_81 (by decide) q236 (wX_obj _) rfl ?_
            refine V_iload dX0_sizesOf_84 rfl ?_
            refine Vx_aa_coatsBy dX0_sizesOf_86 rfl (by omega) ?_
            refine V_iload_n dX0_sizesOf_87 rfl ?_
            refine Vx_ld_crow dX0_sizesOf_88 (by omega) rfl (by omega) ?_
            rw [h30]
            refine Vx_st_had dX0_sizesOf_89 (by omega) rfl (by omega) ?_
            refine V_iinc dX0_sizesOf_90 rfl (iinc_1 _) rfl (Nat.le_of_ble_eq_true rfl) ?_
            refine V_goto (tgt := 62) dX0_sizesOf_93 (by decide) ?_
            exact ihh (e + 1) (szI k v e T3) _ (by omega) (n38_wr hT3) (n38_wr hX3) (HD_st (k := k) hH3) hR3
      refine V_aload_n dX0_sizesOf_28 rfl ?_
      refine V_getfN (i := 1) k_X8 dX0_sizesOf_29 (by decide) (nw q584 rfl) (wX_per _ (d := k) (by omega) hs) rfl ?_
      rw [h4]
      refine V_bipush dX0_sizesOf_32 lb_9 ?_
      refine V_icmp_gtN (tgt := 109) dX0_sizesOf_34 (by decide) (by omega) (by omega) (fun c34 => ?_) (fun c34 => ?_)
      · exact absurd c34 (by omega)
      · refine V_iload dX0_sizesOf_37 rfl ?_
        refine V_aload_n dX0_sizesOf_39 rfl ?_
        refine Vz_vI (k' := 0) (n' := 0) (x_isSeen l hX1 hS2) dX0_sizesOf_40 (lw_V q958 q960 qs29 q95 q961) hv_X0_isSeen (by decide) (wX_obj _) cl_X0 rfl rfl (Nat.le_of_ble_eq_true rfl) (fF_FV hV) (okl_c (ok_r (fF_ok (.inl (Nat.le_of_ble_eq_true rfl)))) (okl_c ok_i (okl_c (ok_r (fF_ok0 hf (by omega))) (okl_c ok_i (okl_c ok_i (okl_n (okl_n okl_0))))))) (oks_c ok_i oks_0) ⟨Nat.le_refl _, Nat.le_refl _⟩ (fun x2 X2 h2 => ?_)
        obtain ⟨ex, h2⟩ := h2
        rw [ex]
        have h4b : X2 4 k = nI v := (congrFun (h2.2.2.2.2.1 hf 4 (by decide) (by decide)) k).trans h4
        have e5 : (runsF (mwr T1 4 k (nI v))) 2 0 = R 2 0 := (congrFun (runsF_fr _ 2 (by omega)) 0).trans ((mwr_r _ _ _ _ (by decide)).trans hA.2.1)
        obtain ⟨-, -, d1, -⟩ := RD_x h2.1.1 h2.1.2.1
        have hs2 : k < std X2 0 := by rw [d1, e5]; exact hk
        refine V_if_eqB (tgt := 55) dX0_sizesOf_43 (by decide) (fun c43 => ?_) (fun c43 => ?_)
        · refine V_iconst dX0_sizesOf_55 li_0 ?_
          refine V_ior dX0_sizesOf_56 ?_
          refine V_istore dX0_sizesOf_57 rfl (Nat.le_of_ble_eq_true rfl) (Nat.le_of_ble_eq_true rfl) ?_
          refine V_iconst dX0_sizesOf_59 li_0 ?_
          refine V_istore dX0_sizesOf_60 rfl (Nat.le_of_ble_eq_true rfl) (Nat.le_of_ble_eq_true rfl) ?_
          have z := M X2 _ h2.1 h2.2.1 h2.2.2 (by rw [← hR, szK_s, if_neg c43]) 24 0 (runsF (mwr T1 4 k (nI v))) X2 (by decide) (n38_rf _) (n38_rf _) ?_ rfl
          · exact z
          · intro u d hd hu
            rw [h2.2.2.1 38 (by omega), runsF_fr _ 38 (by omega), mwr_r _ _ _ _ (show 38 ≠ 4 by decide)]
            exact hH u d hd (by omega)
        · refine V_iconst dX0_sizesOf_46 li_1 ?_
          refine V_aload_n dX0_sizesOf_47 rfl ?_
          refine V_getfN (i := 1) k_X8 dX0_sizesOf_48 (by decide) (nw q584 rfl) (wX_per _ (d := k) (by omega) hs2) rfl ?_
          rw [h4b]
          refine V_ishl dX0_sizesOf_51 ?_
          refine V_goto (tgt := 56) dX0_sizesOf_52 (by decide) ?_
          refine V_ior dX0_sizesOf_56 ?_
          refine V_istore dX0_sizesOf_57 rfl (Nat.le_of_ble_eq_true rfl) (Nat.le_of_ble_eq_true rfl) ?_
          refine V_iconst dX0_sizesOf_59 li_0 ?_
          refine V_istore dX0_sizesOf_60 rfl (Nat.le_of_ble_eq_true rfl) (Nat.le_of_ble_eq_true rfl) ?_
          have z := M X2 _ h2.1 h2.2.1 h2.2.2 (by rw [← hR, szK_s, if_pos c43]) 24 0 (runsF (mwr T1 4 k (nI v))) X2 (by decide) (n38_rf _) (n38_rf _) ?_ rfl
          · exact z
          · intro u d hd hu
            rw [h2.2.2.1 38 (by omega), runsF_fr _ 38 (by omega), mwr_r _ _ _ _ (show 38 ≠ 4 by decide)]
            exact hH u d hd (by omega)
  refine V_aload_n dX0_sizesOf_0 rfl ?_
  refine V_getf (i := 1) k_X0 dX0_sizesOf_1 (by decide) q228 (wX_obj _) rfl ?_
  refine V_getfU (i := 6) k_X2 dX0_sizesOf_4 (by decide) q175 q176 (wX_tx0 _) rfl ?_
  refine V_iload_n dX0_sizesOf_7 rfl ?_
  refine V_get (q := 0) (hl 0 (by decide)) rfl (by rw [c0]; exact hk) dX0_sizesOf_8 (lw_V q665 q666 q667 q100 q668) (Nat.le_of_ble_eq_true rfl) (by decide) ?_
  rw [eln_0]
  refine V_castE dX0_sizesOf_11 q679 (.inl ⟨_, _, _, _, (wX_per _ (d := k) (by omega) d0), cl_X8, rfl⟩) ?_
  refine V_astore_n dX0_sizesOf_14 rfl (Nat.le_of_ble_eq_true rfl) (Nat.le_of_ble_eq_true rfl) ?_
  refine V_aload_n dX0_sizesOf_15 rfl ?_
  refine V_getfN (i := 1) k_X8 dX0_sizesOf_16 (by decide) (nw q584 rfl) (wX_per _ (d := k) (by omega) d0) rfl ?_
  rw [y0.2]
  refine V_istore_n dX0_sizesOf_19 rfl (Nat.le_of_ble_eq_true rfl) (Nat.le_of_ble_eq_true rfl) ?_
  refine V_iconst dX0_sizesOf_20 li_0 ?_
  refine V_istore dX0_sizesOf_21 rfl (Nat.le_of_ble_eq_true rfl) (Nat.le_of_ble_eq_true rfl) ?_
  refine V_aload_n dX0_sizesOf_23 rfl ?_
  refine V_iconst dX0_sizesOf_24 li_0 ?_
  refine Vx_size dX0_sizesOf_25 (nw q584 rfl) (by omega) d0 ?_
  refine L 10 0 (nI 0) R (mwr X 4 k (nI 0)) (by decide) ?_ (mwr_s _ _ _ _) hf0 (.inl rfl) ?_ h.1.2.2.2.2.1 hS (FV_wr (FV_rf X) (by omega)) (df_wr (by decide) h.2.2) d0 (fun u d hd hu => absurd hu (by omega)) rfl
  · rw [mwr_mwr, mwr_self, mwr_eq y0.2]; exact h.1
  · rw [mwr_self]; exact AP_rf R
set_option maxHeartbeats 4000000 in
theorem x_sortBy (l : Launch) {R X : xSt} (h : PT R X) (hS : SV R) (hf0 : X 47 0 = nI 1) {k : Nat} (hk : k < vN (R 2 0)) : Cx l yX0_sortBy (wsW_ yX0_sortBy cX0_sortBy 6 (some .int) [(7, 50, 58, 0), (58, 60, 58, 0)]) 22 [.ref 0, .ref (1088 + k)] X (fun r X' => ∃ x, r = some (.int x) ∧ x = (sortsF k R).1 ∧ PT R X' ∧ FV X X') := by
  refine Cz_startW (ls := [some (.ref 0), some (.ref (1088 + k)), none, none, none, none]) (by decide) rfl (Nat.le_of_ble_eq_true rfl) fF_lo ?_
  intro Q hQ
  have p2 := bd_v h.1.2.2.2.2.1.1 (by decide)
  have hl := h.1.1.2.1
  have s0 := (h.1.2.2.2.2.2.2.1.resolve_right (fun z => by rw [hf0] at z; exact absurd z.1 (by decide +kernel))).2
  have c0 : cnt X 0 = vN (R 2 0) := by unfold cnt; rw [show szr 0 = 2 from rfl, s0.1]
  have d0 : k < std X 0 := by rw [h.1.1.2.2.2.2.2.2.2.1 0 (by decide) (by decide), c0]; exact hk
  have y0 := s0.2 k hk
  have tb := h.1.2.2.2.2.2.1.1 k hk
  have L : ∀ (j v : Nat) (a : Int32) (T1 X1 : xSt), v + j = 3 → XT (mwr T1 3 k (R 3 k)) (mwr X1 3 k (R 3 k)) → X1 47 0 = nI 1 → AP R (mwr T1 3 k (R 3 k)) → PV T1 → SV T1 → FV X X1 → df X1 → k < std X1 0 → soK k j v a T1 = soR k R → V l (yX0_sortBy.cls, cX0_sortBy, 6, (some .int), [(7, 50, 58, 0), (58, 60, 58, 0)], yX0_sortBy.name) (rmD 22 (rc X) (rs X), fF X, Q, xX0) 10 [some (.ref 0), some (.ref (1088 + k)), some (.ref (soN (R 3 k))), some (.int a), some (.int (nI v)), none] [] (wX X1) (rc X1) (rs X1) := by
    intro j
    induction j with
    | zero =>
      intro v a T1 X1 hij hX hf hA hP hSV hV hD hs hR
      have hR : (a, T1) = soR k R := hR
      have hV9 := FV_wr (j := 3) (i := k) (v := R 3 k) hV (by omega)
      have hpt : PT R (mwr X1 3 k (R 3 k)) := PT_back h hX hA hV9 (od_rf _) (df_wr (by decide) hD)
      refine V_iload dX0_sortBy_10 rfl ?_
      refine V_iconst dX0_sortBy_12 li_3 ?_
      refine V_icmp_geN (tgt := 50) dX0_sortBy_13 (by decide) (by omega) (by omega) (fun c13 => ?_) (fun c13 => ?_)
      · refine V_aload_n dX0_sortBy_50 rfl ?_
        refine V_aload_n dX0_sortBy_51 rfl ?_
        refine Vx_sort dX0_sortBy_52 (nw q582 rfl) (by omega) hs ?_
        refine V_goto (tgt := 68) dX0_sortBy_55 (by decide) ?_
        refine V_iload_n dX0_sortBy_68 rfl ?_
        exact V_ireturn dX0_sortBy_69 rfl (hQ _ _ ⟨_, rfl, ⟨by unfold sortsF; rw [← hR], hpt, hV9⟩⟩)
      · exact absurd c13 (by omega)
    | succ j ih =>
      intro v a T1 X1 hij hX hf hA hP hSV hV hD hs hR
      have hX1 := XT_P (k := k) (v := nI v) (.inl rfl) hX hf (.inl ⟨rfl, bd_n (by omega)⟩)
      rw [mwr_mwr, mwr_mwr] at hX1
      have hP2 : PV (mwr T1 3 k (nI v)) := PV_wr (by omega) hP
      have hS2 : SV (mwr T1 3 k (nI v)) := SV_wr (by omega) hSV
      have hV1 := FV_wr (j := 3) (i := k) (v := nI v) hV (by omega)
      refine V_iload dX0_sortBy_10 rfl ?_
      refine V_iconst dX0_sortBy_12 li_3 ?_
      refine V_icmp_geN (tgt := 50) dX0_sortBy_13 (by decide) (by omega) (by omega) (fun c13 => ?_) (fun c13 => ?_)
      · exact absurd c13 (by omega)
      · refine V_aload_n dX0_sortBy_16 rfl ?_
        refine V_gets (v := .ref 900) (fun _ _ _ _ z => z.1) (fun _ z => by cases z; exact ⟨by decide, by decide⟩) dX0_sortBy_17 q978 ?_
        refine V_iload dX0_sortBy_20 rfl ?_
        refine V_aald dX0_sortBy_22 rfl (wX_SORT _) (v := .ref (soN (nI v))) (vp_in_nI (show v < 3 by omega) (by decide)) (by rw [soN_n v (by omega), nI_clamp (by omega)]) ?_
        refine Vx_sort dX0_sortBy_23 (nw q582 rfl) (by omega) hs ?_
        refine V_iload_n dX0_sortBy_26 rfl ?_
        refine V_aload_n dX0_sortBy_27 rfl ?_
        refine Vz_vI (k' := 0) (n' := 0) (x_isSeen l hX1 hS2) dX0_sortBy_28 (lw_V q958 q960 qs29 q95 q961) hv_X0_isSeen (by decide) (wX_obj _) cl_X0 rfl rfl (Nat.le_of_ble_eq_true rfl) (fF_FV hV1) (okl_c (ok_r (fF_ok (.inl (Nat.le_of_ble_eq_true rfl)))) (okl_c (ok_r (fF_ok0 (X := mwr X1 3 k (nI v)) hf (by omega))) (okl_c (ok_r (fF_ok (.inr (by have := soN_b (R 3 k); omega)))) (okl_c ok_i (okl_c ok_i (okl_n okl_0)))))) (oks_c ok_i oks_0) ⟨Nat.le_refl _, Nat.le_refl _⟩ (fun x2 X2 h2 => ?_)
        obtain ⟨ex, h2⟩ := h2
        rw [ex]
        have e5 : (runsF (mwr T1 3 k (nI v))) 2 0 = R 2 0 := (congrFun (runsF_fr _ 2 (by omega)) 0).trans ((mwr_r _ _ _ _ (by decide)).trans hA.2.1)
        obtain ⟨-, -, d1, -⟩ := RD_x h2.1.1 h2.1.2.1
        have hs2 : k < std X2 0 := by rw [d1, e5]; exact hk
        have e0 := rc_0 (X := X2) h2.1.2.1
        refine V_if_eqB (tgt := 41) dX0_sortBy_31 (by decide) (fun c31 => ?_) (fun c31 => ?_)
        · refine V_iconst dX0_sortBy_41 li_0 ?_
          refine V_ior dX0_sortBy_42 ?_
          refine V_istore_n dX0_sortBy_43 rfl (Nat.le_of_ble_eq_true rfl) (Nat.le_of_ble_eq_true rfl) ?_
          refine V_iinc dX0_sortBy_44 rfl (iinc_1 _) rfl (Nat.le_of_ble_eq_true rfl) ?_
          refine V_goto (tgt := 10) dX0_sortBy_47 (by decide) ?_
          have z := ih (v + 1) _ (runsF (mwr T1 3 k (nI v))) X2 (by omega) (XT_P (.inl rfl) h2.1.1 h2.1.2.1.1 (.inl ⟨rfl, tb.1⟩)) h2.1.2.1.1 (mwr_run (by decide) hA) (PV_fr (runsF_fr _) hP2) (SV_run hS2) (FV_tr hV1 (FV_FW h2.2.2)) (df_FW h2.2.2 (df_wr (by decide) hD)) hs2 (by rw [← hR, soK_s, if_neg c31])
          rw [e0.1, e0.2] at z
          exact z
        · refine V_iconst dX0_sortBy_34 li_1 ?_
          refine V_iload dX0_sortBy_35 rfl ?_
          refine V_ishl dX0_sortBy_37 ?_
          refine V_goto (tgt := 42) dX0_sortBy_38 (by decide) ?_
          refine V_ior dX0_sortBy_42 ?_
          refine V_istore_n dX0_sortBy_43 rfl (Nat.le_of_ble_eq_true rfl) (Nat.le_of_ble_eq_true rfl) ?_
          refine V_iinc dX0_sortBy_44 rfl (iinc_1 _) rfl (Nat.le_of_ble_eq_true rfl) ?_
          refine V_goto (tgt := 10) dX0_sortBy_47 (by decide) ?_
          have z := ih (v + 1) _ (runsF (mwr T1 3 k (nI v))) X2 (by omega) (XT_P (.inl rfl) h2.1.1 h2.1.2.1.1 (.inl ⟨rfl, tb.1⟩)) h2.1.2.1.1 (mwr_run (by decide) hA) (PV_fr (runsF_fr _) hP2) (SV_run hS2) (FV_tr hV1 (FV_FW h2.2.2)) (df_FW h2.2.2 (df_wr (by decide) hD)) hs2 (by rw [← hR, soK_s, if_pos c31])
          rw [e0.1, e0.2] at z
          exact z
  refine V_aload_n dX0_sortBy_0 rfl ?_
  refine V_getfN (i := 0) k_X8 dX0_sortBy_1 (by decide) (nw q582 rfl) (wX_per _ (d := k) (by omega) d0) rfl ?_
  rw [y0.1]
  refine V_astore_n dX0_sortBy_4 rfl (Nat.le_of_ble_eq_true rfl) (Nat.le_of_ble_eq_true rfl) ?_
  refine V_iconst dX0_sortBy_5 li_0 ?_
  refine V_istore_n dX0_sortBy_6 rfl (Nat.le_of_ble_eq_true rfl) (Nat.le_of_ble_eq_true rfl) ?_
  refine V_iconst dX0_sortBy_7 li_0 ?_
  refine V_istore dX0_sortBy_8 rfl (Nat.le_of_ble_eq_true rfl) (Nat.le_of_ble_eq_true rfl) ?_
  refine L 3 0 (nI 0) R X (by decide) ?_ hf0 ?_ h.1.2.2.2.2.1 hS (FV_rf X) h.2.2 d0 rfl
  · rw [mwr_self, mwr_eq y0.1]; exact h.1
  · rw [mwr_self]; exact AP_rf R
