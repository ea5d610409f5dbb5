/-! PromiseTailor's side: plans, hush -/
set_option maxRecDepth 100000
/-- but for what is gone, the plan is the one that was told -/
def HG (R T : xSt) : Prop := T 22 0 = R 22 0 ∧ T 23 = R 23 ∧ T 24 = R 24 ∧ T 21 0 = R 21 0
theorem HG_rf (R : xSt) : HG R R := ⟨rfl, rfl, rfl, rfl⟩
theorem HG_fr {R T U : xSt} (h : HG R T) (g : fr T U) : HG R U := by
  unfold HG
  rw [g 21 (by omega), g 22 (by omega), g 23 (by omega), g 24 (by omega)]
  exact h
theorem HG_wr {R T : xSt} {j i : Nat} {v : Int32} (h : HG R T) (hj : j < 21 ∨ 24 < j) : HG R (mwr T j i v) := by
  unfold HG
  rw [mwr_R _ _ _ (show 21 ≠ j by omega), mwr_R _ _ _ (show 22 ≠ j by omega), mwr_R _ _ _ (show 23 ≠ j by omega), mwr_R _ _ _ (show 24 ≠ j by omega)]
  exact h
theorem XK_h {R T X : xSt} (h : KD R X) (g : HG R T) (d0 : X 45 0 = -1) (d1 : X 25 0 = T 25 0) (d2 : X 26 0 = T 26 0) : XK T X := by
  refine ⟨fun i hi => ?_, .inl ⟨d0, ?_⟩, d1, d2, h.2.2.2.2.2⟩
  · rw [g.2.1, g.2.2.1]; exact h.1 i hi
  · rw [g.1]; exact h.2.1
theorem XO_h {R T X : xSt} (h : KD R X) (g : HG R T) (a : AP R T) (d : X 45 2 = -1) : XO T X := .inl ⟨d, by rw [g.2.2.2, a.2.2.1]; exact h.2.2.2.2.1⟩
theorem AP_33 {R : xSt} {j i : Nat} {v : Int32} (h : 20 < j ∧ j < 34) : AP R (mwr R j i v) := AP_wr h
theorem hsF_33 (b : Int32) (S : xSt) (i : Nat) : hsF b S 33 i = S 33 i := congrFun (runsF_fr (mwr S 26 0 b) 33 (by omega)) i
theorem ofRow_m (S : xSt) (n : Int32) : ofRowF S n (-1) = n := if_pos rfl
theorem ofRow_n (S : xSt) (n i : Nat) (hi : i < 256) (h : n ≤ i) : ofRowF S (nI n) (nI i) = -1 := by
  unfold ofRowF
  rw [if_neg (nI_nm i hi), if_pos (nI_le h (by omega))]
theorem ofRow_i (S : xSt) (n i : Nat) (hn : n < 256) (h : i < n) : ofRowF S (nI n) (nI i) = S 33 i := by
  unfold ofRowF
  rw [if_neg (nI_nm i (by omega)), if_neg (nI_ge h (by omega)), vN_nI (by omega)]
theorem ofRow_x (S : xSt) (i : Nat) (hi : i < 256) : ofRowF S (-1) (nI i) = -1 := by
  unfold ofRowF
  rw [if_neg (nI_nm i hi), if_pos]
  have : ∀ i, i < 256 → -1 ≤ nI i := by decide +kernel
  exact this i hi
theorem ofRow_pm {F : Int32 × xSt} {n : Int32} {S : xSt} {i : Int32} (e : F = (n, S)) (h : i = -1) : n = ofRowF F.2 F.1 i := by
  rw [e, h]
  exact (ofRow_m S n).symm
theorem ofRow_pn {F : Int32 × xSt} {n k : Nat} {S : xSt} {i : Int32} (e : F = (nI n, S)) (h : i = nI k) (hk : k < 256) (hn : n ≤ k) : -1 = ofRowF F.2 F.1 i := by
  rw [e, h]
  exact (ofRow_n S n k hk hn).symm
theorem ofRow_pi {F : Int32 × xSt} {n k : Nat} {S : xSt} {i v : Int32} (e : F = (nI n, S)) (h : i = nI k) (hn : n < 256) (hk : k < n) (hv : S 33 k = v) : v = ofRowF F.2 F.1 i := by
  rw [e, h]
  exact ((ofRow_i S n k hn hk).trans hv).symm
theorem ofRow_px {F : Int32 × xSt} {S : xSt} {i : Int32} (e : F = (-1, S)) (h : i = -1 ∨ i = nI 0 ∨ i = nI 1) : -1 = ofRowF F.2 F.1 i := by
  rw [e]
  rcases h with h | h | h
  · rw [h]; rfl
  · rw [h]; exact (ofRow_x S 0 (by decide)).symm
  · rw [h]; exact (ofRow_x S 1 (by decide)).symm
theorem hv_0 (b : Int32) (a c : Nat) (S : xSt) : hsF b (hbW a c S) 33 0 = nI a := (hsF_33 _ _ _).trans ((mwr_q _ _ _ _ (by decide)).trans (mwr_s _ _ _ _))
theorem hv_1 (b : Int32) (a c : Nat) (S : xSt) : hsF b (hbW a c S) 33 1 = nI c := (hsF_33 _ _ _).trans (mwr_s _ _ _ _)
theorem hv_2 (b : Int32) (a : Nat) (S : xSt) : hsF b (mwr S 33 0 (nI a)) 33 0 = nI a := (hsF_33 _ _ _).trans (mwr_s _ _ _ _)

set_option maxHeartbeats 4000000 in
theorem x_isHushed (l : Launch) {R T X : xSt} (h : PT R X) (hA : AP R T) (hP : PV T) (hG : HG R T) (h25 : T 25 0 = nI 0) (bits : Int32) : Cx l yX0_isHushed (wsW_ yX0_isHushed cX0_isHushed 4 (some .boolean) [(5, 24, 31, 0)]) 21 [.ref 0, .int bits] X (fun r X' => ∃ x, r = some (.int x) ∧ x = bI (hsQ bits T) ∧ PT R X' ∧ FRS X' ∧ FV X X') := by
  refine Cz_startW (ls := [some (.ref 0), some (.int bits), none, none]) (by decide) rfl (Nat.le_of_ble_eq_true rfl) fF_lo ?_
  intro Q hQ
  have hA2 : AP R (mwr T 26 0 bits) := AP_tr hA (AP_wr (by omega))
  have hP2 : PV (mwr T 26 0 bits) := PV_wr (by omega) hP
  have o0 : od X (mwr X 26 0 bits) := od_wr (od_rf X) (by omega)
  have hX1 : XT (mwr T 26 0 bits) (mwr X 26 0 bits) := XT_ap h.1 hA2 o0 hP2 (XK_h (KD_od h.2.1 o0) (HG_wr hG (by omega)) h.2.2.1 (h.2.2.2.2.1.trans h25.symm) (by rw [mwr_s, mwr_s])) (XO_h h.2.1 (HG_wr hG (by omega)) hA2 h.2.2.2.1)
  refine V_aload_n dX0_isHushed_0 rfl ?_
  refine V_iload_n dX0_isHushed_1 rfl ?_
  refine Vx_put13 dX0_isHushed_2 q240 ?_
  refine V_aload_n dX0_isHushed_5 rfl ?_
  refine Vz_vV (k' := 0) (n' := 0) (x_find l hX1) dX0_isHushed_6 (lw_V q789 q791 qs9 q95 q792) hv_X0_find (by decide) (wX_obj _) cl_X0 rfl rfl (Nat.le_of_ble_eq_true rfl) (fF_FV (FV_od o0)) (okl_c (ok_r (fF_ok (.inl (Nat.le_of_ble_eq_true rfl)))) (okl_c ok_i (okl_n (okl_n okl_0)))) oks_0 ⟨Nat.le_refl _, Nat.le_refl _⟩ (fun X2 h2 => ?_)
  have hQ2 := RQ_of h2.1 h2.2.1
  have hV2 : FV X X2 := FV_tr (FV_od o0) (FV_FW h2.2.2)
  have o1 : od X2 (mwr X2 26 0 (nI 0)) := od_wr (od_rf X2) (by omega)
  have hpt : PT R (mwr X2 26 0 (nI 0)) := PT_xb h (XB_run h2.1 hA2) hV2 o1 (by unfold df; rw [mwr_R _ _ _ (show 45 ≠ 26 by decide), mwr_R _ _ _ (show 25 ≠ 26 by decide), mwr_s, h2.2.2.1 45 (by omega), h2.2.2.1 25 (by omega)]; exact ⟨h.2.2.1, h.2.2.2.1, h.2.2.2.2.1, rfl⟩)
  refine V_aload_n dX0_isHushed_9 rfl ?_
  refine V_bipush dX0_isHushed_10 lb_23 ?_
  refine Vq_v (x_nakedBy l hQ2 (show 23 < 24 by decide)) dX0_isHushed_12 (lw_V q865 q867 qs18 q95 q868) hv_X0_nakedBy (by decide) (wX_obj _) cl_X0 rfl rfl (Nat.le_of_ble_eq_true rfl) ?_
  refine V_if_ne (tgt := 22) dX0_isHushed_15 (by decide) (fun c15 => ?_) (fun c15 => ?_)
  · refine V_iconst dX0_isHushed_22 li_0 ?_
    refine V_istore_n dX0_isHushed_23 rfl (Nat.le_of_ble_eq_true rfl) (Nat.le_of_ble_eq_true rfl) ?_
    refine V_aload_n dX0_isHushed_24 rfl ?_
    refine V_iconst dX0_isHushed_25 li_0 ?_
    refine Vx_put13 dX0_isHushed_26 q240 ?_
    refine V_iload_n dX0_isHushed_29 rfl ?_
    exact V_zreturn dX0_isHushed_30 rfl (by first | exact bI_nr | exact nr_0 | exact nr_1 | rfl) (hQ _ _ ⟨_, rfl, ⟨bI_f c15, hpt, ⟨h2.1.2.1.1, h2.1.2.1.2⟩, FV_tr hV2 (FV_od o1)⟩⟩)
  · refine V_iconst dX0_isHushed_18 li_1 ?_
    refine V_goto (tgt := 23) dX0_isHushed_19 (by decide) ?_
    refine V_istore_n dX0_isHushed_23 rfl (Nat.le_of_ble_eq_true rfl) (Nat.le_of_ble_eq_true rfl) ?_
    refine V_aload_n dX0_isHushed_24 rfl ?_
    refine V_iconst dX0_isHushed_25 li_0 ?_
    refine Vx_put13 dX0_isHushed_26 q240 ?_
    refine V_iload_n dX0_isHushed_29 rfl ?_
    exact V_zreturn dX0_isHushed_30 rfl (by first | exact bI_nr | exact nr_0 | exact nr_1 | rfl) (hQ _ _ ⟨_, rfl, ⟨bI_t c15, hpt, ⟨h2.1.2.1.1, h2.1.2.1.2⟩, FV_tr hV2 (FV_od o1)⟩⟩)
set_option maxHeartbeats 4000000 in
theorem x_hushBy (l : Launch) {R X : xSt} (h : PT R X) {i : Int32} (hi : i = -1 ∨ i = nI 0 ∨ i = nI 1) : Cx l yX0_hushBy (ws_ yX0_hushBy cX0_hushBy 5 (some .int)) 22 [.ref 0, .int i] X (fun r X' => ∃ x, r = some (.int x) ∧ x = ofRowF (hushF R).2 (hushF R).1 i ∧ PT R X' ∧ FV X X') := by
  refine Cz_start (ls := [some (.ref 0), some (.int i), none, none, none]) (by decide) rfl (Nat.le_of_ble_eq_true rfl) fF_lo ?_
  intro Q hQ
  have n6 := bd_v h.1.1.2.2.2.2.2.2.2.2.2.2.2.1 (by decide)
  have hn : X 13 0 = R 13 0 := congrFun (h.1.2.1 13 (by omega)) 0
  rw [hn] at n6
  have hnn : vN (R 13 0) = vN (R 13 0) := rfl
  generalize hN : vN (R 13 0) = N at n6 hnn
  have L71 : ∀ (j a : Nat) (T1 X1 : xSt), a + j = N → PT R X1 → FRS X1 → AP R T1 → PV T1 → HG R T1 → T1 25 0 = nI 0 → FV X X1 → hb1 N j a T1 = hushF R → V l (yX0_hushBy.cls, cX0_hushBy, 5, (some .int), [], yX0_hushBy.name) (rmD 22 (rc X) (rs X), fF X, Q, xX0) 71 [some (.ref 0), some (.int i), some (.int (nI N)), some (.int (nI a)), none] [] (wX X1) 0 0 := by
    intro j
    induction j with
    | zero =>
      intro a T1 X1 hij h1 hF hA hP hG h25 hV hR
      refine V_iload_n dX0_hushBy_71 rfl ?_
      refine V_iload_n dX0_hushBy_72 rfl ?_
      refine V_icmp_geN (tgt := 134) dX0_hushBy_73 (by decide) (by omega) (by omega) (fun c73 => ?_) (fun c73 => ?_)
      · refine V_iconst dX0_hushBy_134 li_m1 ?_
        have hR : ((-1 : Int32), T1) = hushF R := hR
        exact V_ireturn dX0_hushBy_135 rfl (hQ _ _ ⟨_, rfl, ⟨ofRow_px hR.symm hi, h1, hV⟩⟩)
      · exact absurd c73 (by omega)
    | succ j ih =>
      intro a T1 X1 hij h1 hF hA hP hG h25 hV hR
      have M : ∀ (j2 b : Nat) (T1 X1 : xSt), b + j2 = N → PT R X1 → FRS X1 → AP R T1 → PV T1 → HG R T1 → T1 25 0 = nI 0 → FV X X1 → hb2 a (fun S' => hb1 N j (a + 1) S') j2 b T1 = hushF R → V l (yX0_hushBy.cls, cX0_hushBy, 5, (some .int), [], yX0_hushBy.name) (rmD 22 (rc X) (rs X), fF X, Q, xX0) 81 [some (.ref 0), some (.int i), some (.int (nI N)), some (.int (nI a)), some (.int (nI b))] [] (wX X1) 0 0 := by
        intro j2
        induction j2 with
        | zero =>
          intro b T1 X1 hib h1 hF hA hP hG h25 hV hR
          refine V_iload dX0_hushBy_81 rfl ?_
          refine V_iload_n dX0_hushBy_83 rfl ?_
          refine V_icmp_geN (tgt := 128) dX0_hushBy_84 (by decide) (by omega) (by omega) (fun c84 => ?_) (fun c84 => ?_)
          · refine V_iinc dX0_hushBy_128 rfl (iinc_1 _) rfl (Nat.le_of_ble_eq_true rfl) ?_
            refine V_goto (tgt := 71) dX0_hushBy_131 (by decide) ?_
            refine V_forget 4 ?_
            exact ih (a + 1) T1 X1 (by omega) h1 hF hA hP hG h25 hV hR
          · exact absurd c84 (by omega)
        | succ j2 ihh =>
          intro b T1 X1 hib h1 hF hA hP hG h25 hV hR
          refine V_iload dX0_hushBy_81 rfl ?_
          refine V_iload_n dX0_hushBy_83 rfl ?_
          refine V_icmp_geN (tgt := 128) dX0_hushBy_84 (by decide) (by omega) (by omega) (fun c84 => ?_) (fun c84 => ?_)
          · exact absurd c84 (by omega)
          · refine V_aload_n dX0_hushBy_87 rfl ?_
            refine V_iconst dX0_hushBy_88 li_1 ?_
            refine V_iload_n dX0_hushBy_89 rfl ?_
            refine V_ishl dX0_hushBy_90 ?_
            refine V_iconst dX0_hushBy_91 li_1 ?_
            refine V_iload dX0_hushBy_92 rfl ?_
            refine V_ishl dX0_hushBy_94 ?_
            refine V_ior dX0_hushBy_95 ?_
            refine Vz_wI (k' := 0) (n' := 0) (x_isHushed l h1 (T := (hbW a b T1)) (AP_tr hA (AP_tr (AP_wr (by omega)) (AP_wr (by omega)))) (PV_wr (by omega) (PV_wr (by omega) hP)) (HG_wr (HG_wr hG (by omega)) (by omega)) h25 (sh1 a ||| sh1 b)) dX0_hushBy_96 (lw_VW q936 q938 qs27 q95 q939) hv_X0_isHushed (by decide) (wX_obj _) cl_X0 rfl rfl (Nat.le_of_ble_eq_true rfl) (fF_FV hV) (okl_c (ok_r (fF_ok (.inl (Nat.le_of_ble_eq_true rfl)))) (okl_c ok_i (okl_c ok_i (okl_c ok_i (okl_c ok_i okl_0))))) oks_0 ⟨by rw [(rc_0 hF).1]; exact Nat.le_refl _, by rw [(rc_0 hF).2]; exact Nat.le_refl _⟩ (fun x2 X2 h2 => ?_)
            obtain ⟨ex, g1, g2, g3⟩ := h2
            rw [ex]
            have hV2 := FV_tr hV g3
            refine V_if_eqB (tgt := 122) dX0_hushBy_99 (by decide) (fun c99 => ?_) (fun c99 => ?_)
            · refine V_iinc dX0_hushBy_122 rfl (iinc_1 _) rfl (Nat.le_of_ble_eq_true rfl) ?_
              refine V_goto (tgt := 81) dX0_hushBy_125 (by decide) ?_
              refine ihh (b + 1) (hsF (sh1 a ||| sh1 b) (hbW a b T1)) X2 (by omega) g1 g2 (AP_tr (AP_tr hA (AP_tr (AP_wr (by omega)) (AP_wr (by omega)))) (AP_tr (AP_wr (by omega)) (AP_fr (runsF_fr _)))) (PV_fr (runsF_fr _) (PV_wr (by omega) (PV_wr (by omega) (PV_wr (by omega) hP)))) (HG_fr (HG_wr (HG_wr (HG_wr hG (by omega)) (by omega)) (by omega)) (runsF_fr _)) ((congrFun (runsF_fr _ 25 (by omega)) 0).trans h25) hV2 ?_
              rw [← hR, hb2_s, if_neg c99]
            · have e2 : hushF R = (nI 2, hsF (sh1 a ||| sh1 b) (hbW a b T1)) := by rw [← hR, hb2_s, if_pos c99]
              refine V_iload_n dX0_hushBy_102 rfl ?_
              refine V_iconst dX0_hushBy_103 li_m1 ?_
              refine V_icmp_ne (tgt := 111) dX0_hushBy_104 (by decide) (fun c104 => ?_) (fun c104 => ?_)
              · refine V_iload_n dX0_hushBy_111 rfl ?_
                refine V_if_ne (tgt := 119) dX0_hushBy_112 (by decide) (fun c112 => ?_) (fun c112 => ?_)
                · refine V_iload dX0_hushBy_119 rfl ?_
                  exact V_ireturn dX0_hushBy_121 rfl (hQ _ _ ⟨_, rfl, ⟨ofRow_pi e2 ((hi.resolve_left c104).resolve_left c112) (by decide) (by decide) (hv_1 _ _ _ _), g1, hV2⟩⟩)
                · refine V_iload_n dX0_hushBy_115 rfl ?_
                  refine V_goto (tgt := 121) dX0_hushBy_116 (by decide) ?_
                  exact V_ireturn dX0_hushBy_121 rfl (hQ _ _ ⟨_, rfl, ⟨ofRow_pi e2 c112 (by decide) (by decide) (hv_0 _ _ _ _), g1, hV2⟩⟩)
              · refine V_iconst dX0_hushBy_107 li_2 ?_
                refine V_goto (tgt := 121) dX0_hushBy_108 (by decide) ?_
                exact V_ireturn dX0_hushBy_121 rfl (hQ _ _ ⟨_, rfl, ⟨ofRow_pm e2 c104, g1, hV2⟩⟩)
      refine V_iload_n dX0_hushBy_71 rfl ?_
      refine V_iload_n dX0_hushBy_72 rfl ?_
      refine V_icmp_geN (tgt := 134) dX0_hushBy_73 (by decide) (by omega) (by omega) (fun c73 => ?_) (fun c73 => ?_)
      · exact absurd c73 (by omega)
      · refine V_iload_n dX0_hushBy_76 rfl ?_
        refine V_iconst dX0_hushBy_77 li_1 ?_
        refine V_iaddN dX0_hushBy_78 ?_
        refine V_istore dX0_hushBy_79 rfl (Nat.le_of_ble_eq_true rfl) (Nat.le_of_ble_eq_true rfl) ?_
        exact M (N - (a + 1)) (a + 1) T1 X1 (by omega) h1 hF hA hP hG h25 hV hR
  have L29 : ∀ (j a : Nat) (T1 X1 : xSt), a + j = N → PT R X1 → FRS X1 → AP R T1 → PV T1 → HG R T1 → T1 25 0 = nI 0 → FV X X1 → hb0 N j a T1 = hushF R → V l (yX0_hushBy.cls, cX0_hushBy, 5, (some .int), [], yX0_hushBy.name) (rmD 22 (rc X) (rs X), fF X, Q, xX0) 29 [some (.ref 0), some (.int i), some (.int (nI N)), some (.int (nI a)), none] [] (wX X1) 0 0 := by
    intro j
    induction j with
    | zero =>
      intro a T1 X1 hij h1 hF hA hP hG h25 hV hR
      refine V_iload_n dX0_hushBy_29 rfl ?_
      refine V_iload_n dX0_hushBy_30 rfl ?_
      refine V_icmp_geN (tgt := 69) dX0_hushBy_31 (by decide) (by omega) (by omega) (fun c31 => ?_) (fun c31 => ?_)
      · refine V_iconst dX0_hushBy_69 li_0 ?_
        refine V_istore_n dX0_hushBy_70 rfl (Nat.le_of_ble_eq_true rfl) (Nat.le_of_ble_eq_true rfl) ?_
        exact L71 N 0 T1 X1 (Nat.zero_add _) h1 hF hA hP hG h25 hV hR
      · exact absurd c31 (by omega)
    | succ j ih =>
      intro a T1 X1 hij h1 hF hA hP hG h25 hV hR
      refine V_iload_n dX0_hushBy_29 rfl ?_
      refine V_iload_n dX0_hushBy_30 rfl ?_
      refine V_icmp_geN (tgt := 69) dX0_hushBy_31 (by decide) (by omega) (by omega) (fun c31 => ?_) (fun c31 => ?_)
      · exact absurd c31 (by omega)
      · refine V_aload_n dX0_hushBy_34 rfl ?_
        refine V_iconst dX0_hushBy_35 li_1 ?_
        refine V_iload_n dX0_hushBy_36 rfl ?_
        refine V_ishl dX0_hushBy_37 ?_
        refine Vz_wI (k' := 0) (n' := 0) (x_isHushed l h1 (T := (mwr T1 33 0 (nI a))) (AP_tr hA (AP_wr (by omega))) (PV_wr (by omega) hP) (HG_wr hG (by omega)) h25 (sh1 a)) dX0_hushBy_38 (lw_VW q936 q938 qs27 q95 q939) hv_X0_isHushed (by decide) (wX_obj _) cl_X0 rfl rfl (Nat.le_of_ble_eq_true rfl) (fF_FV hV) (okl_c (ok_r (fF_ok (.inl (Nat.le_of_ble_eq_true rfl)))) (okl_c ok_i (okl_c ok_i (okl_c ok_i (okl_n okl_0))))) oks_0 ⟨by rw [(rc_0 hF).1]; exact Nat.le_refl _, by rw [(rc_0 hF).2]; exact Nat.le_refl _⟩ (fun x2 X2 h2 => ?_)
        obtain ⟨ex, g1, g2, g3⟩ := h2
        rw [ex]
        have hV2 := FV_tr hV g3
        refine V_if_eqB (tgt := 63) dX0_hushBy_41 (by decide) (fun c41 => ?_) (fun c41 => ?_)
        · refine V_iinc dX0_hushBy_63 rfl (iinc_1 _) rfl (Nat.le_of_ble_eq_true rfl) ?_
          refine V_goto (tgt := 29) dX0_hushBy_66 (by decide) ?_
          refine ih (a + 1) (hsF (sh1 a) (mwr T1 33 0 (nI a))) X2 (by omega) g1 g2 (AP_tr (AP_tr hA (AP_wr (by omega))) (AP_tr (AP_wr (by omega)) (AP_fr (runsF_fr _)))) (PV_fr (runsF_fr _) (PV_wr (by omega) (PV_wr (by omega) hP))) (HG_fr (HG_wr (HG_wr hG (by omega)) (by omega)) (runsF_fr _)) ((congrFun (runsF_fr _ 25 (by omega)) 0).trans h25) hV2 ?_
          rw [← hR, hb0_s, if_neg c41]
        · have e2 : hushF R = (nI 1, hsF (sh1 a) (mwr T1 33 0 (nI a))) := by rw [← hR, hb0_s, if_pos c41]
          refine V_iload_n dX0_hushBy_44 rfl ?_
          refine V_iconst dX0_hushBy_45 li_m1 ?_
          refine V_icmp_ne (tgt := 53) dX0_hushBy_46 (by decide) (fun c46 => ?_) (fun c46 => ?_)
          · refine V_iload_n dX0_hushBy_53 rfl ?_
            refine V_if_ne (tgt := 61) dX0_hushBy_54 (by decide) (fun c54 => ?_) (fun c54 => ?_)
            · refine V_iconst dX0_hushBy_61 li_m1 ?_
              exact V_ireturn dX0_hushBy_62 rfl (hQ _ _ ⟨_, rfl, ⟨ofRow_pn e2 ((hi.resolve_left c46).resolve_left c54) (by decide) (by decide), g1, hV2⟩⟩)
            · refine V_iload_n dX0_hushBy_57 rfl ?_
              refine V_goto (tgt := 62) dX0_hushBy_58 (by decide) ?_
              exact V_ireturn dX0_hushBy_62 rfl (hQ _ _ ⟨_, rfl, ⟨ofRow_pi e2 c54 (by decide) (by decide) (hv_2 _ _ _), g1, hV2⟩⟩)
          · refine V_iconst dX0_hushBy_49 li_1 ?_
            refine V_goto (tgt := 62) dX0_hushBy_50 (by decide) ?_
            exact V_ireturn dX0_hushBy_62 rfl (hQ _ _ ⟨_, rfl, ⟨ofRow_pm e2 c46, g1, hV2⟩⟩)
  refine V_aload_n dX0_hushBy_0 rfl ?_
  refine V_iconst dX0_hushBy_1 li_0 ?_
  refine Vz_wI (k' := 0) (n' := 0) (x_isHushed l h (T := R) (AP_rf R) h.1.2.2.2.2.1 (HG_rf R) h.2.1.2.2.1 (nI 0)) dX0_hushBy_2 (lw_VW q936 q938 qs27 q95 q939) hv_X0_isHushed (by decide) (wX_obj _) cl_X0 rfl rfl (Nat.le_of_ble_eq_true rfl) (fun _ z => z) (okl_c (ok_r (fF_ok (.inl (Nat.le_of_ble_eq_true rfl)))) (okl_c ok_i (okl_n (okl_n (okl_n okl_0))))) oks_0 ⟨Nat.le_refl _, Nat.le_refl _⟩ (fun x2 X2 h2 => ?_)
  obtain ⟨ex, g1, g2, g3⟩ := h2
  rw [ex]
  have hl := g1.1.1.2.1
  refine V_if_eqB (tgt := 19) dX0_hushBy_5 (by decide) (fun c5 => ?_) (fun c5 => ?_)
  · have hR1 : hb0 N N 0 (hsF (nI 0) R) = hushF R := by rw [show hushF R = hb0 (vN (R 13 0)) (vN (R 13 0)) 0 (hsF (nI 0) R) from if_neg c5, hN]
    refine V_aload_n dX0_hushBy_19 rfl ?_
    refine V_getf (i := 4) k_X0 dX0_hushBy_20 (by decide) q231 (wX_obj _) rfl ?_
    refine V_size (q := 3) (hl 3 (by decide)) dX0_hushBy_23 (lw_V q725 q365 q366 q100 q367) (Nat.le_of_ble_eq_true rfl) (by decide) ?_
    rw [show cnt X2 3 = N by unfold cnt; rw [show szr 3 = 13 from rfl, g3.1 13 (by omega), hn, hN]]
    refine V_istore_n dX0_hushBy_26 rfl (Nat.le_of_ble_eq_true rfl) (Nat.le_of_ble_eq_true rfl) ?_
    refine V_iconst dX0_hushBy_27 li_0 ?_
    refine V_istore_n dX0_hushBy_28 rfl (Nat.le_of_ble_eq_true rfl) (Nat.le_of_ble_eq_true rfl) ?_
    exact L29 N 0 (hsF (nI 0) R) X2 (Nat.zero_add _) g1 g2 (AP_tr (AP_wr (by omega)) (AP_fr (runsF_fr _))) (PV_fr (runsF_fr _) (PV_wr (by omega) h.1.2.2.2.2.1)) (HG_fr (HG_wr (HG_rf R) (by omega)) (runsF_fr _)) ((congrFun (runsF_fr _ 25 (by omega)) 0).trans h.2.1.2.2.1) g3 hR1
  · have e2 : hushF R = (nI 0, hsF (nI 0) R) := if_pos c5
    refine V_iload_n dX0_hushBy_8 rfl ?_
    refine V_iconst dX0_hushBy_9 li_m1 ?_
    refine V_icmp_ne (tgt := 17) dX0_hushBy_10 (by decide) (fun c10 => ?_) (fun c10 => ?_)
    · refine V_iconst dX0_hushBy_17 li_m1 ?_
      exact V_ireturn dX0_hushBy_18 rfl (hQ _ _ ⟨_, rfl, ⟨(hi.resolve_left c10).elim (fun e => ofRow_pn e2 e (by decide) (by decide)) (fun e => ofRow_pn e2 e (by decide) (by decide)), g1, g3⟩⟩)
    · refine V_iconst dX0_hushBy_13 li_0 ?_
      refine V_goto (tgt := 18) dX0_hushBy_14 (by decide) ?_
      exact V_ireturn dX0_hushBy_18 rfl (hQ _ _ ⟨_, rfl, ⟨ofRow_pm e2 c10, g1, g3⟩⟩)
