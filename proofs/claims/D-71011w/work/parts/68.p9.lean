/-! PromiseTailor's side: words -/
set_option maxRecDepth 100000

set_option maxHeartbeats 4000000 in
theorem x_div1 (l : Launch) {w : xW} {d e a b g : Nat} (ha : a < 2 ^ 63) (hb : b < 2 ^ 63) (hz : b = 0 → a = g) (hc : ¬ b = 0 → Cq l yX0_divisor cX0_divisor 4 (some .long) e [.long (lN b), .long (lN (a % b))] w (some (.long (lN g)))) (he : e + 1 ≤ d) : Cq l yX0_divisor cX0_divisor 4 (some .long) d [.long (lN a), .long (lN b)] w (some (.long (lN g))) := by
  refine Cq_start (ls := [some (.long (lN a)), none, some (.long (lN b)), none]) (by decide) rfl (Nat.le_of_ble_eq_true rfl) ?_
  intro Q hQ
  refine V_lload_n dX0_divisor_0 rfl ?_
  refine V_lconst (v := 0) dX0_divisor_1 (by rfl) ?_
  refine V_lcmp dX0_divisor_2 ?_
  refine V_if_ne (tgt := 10) dX0_divisor_3 (by decide) (fun c3 => ?_) (fun c3 => ?_)
  · have hb0 : ¬ b = 0 := fun e => c3 ((lg_cmp_eq _ _).mpr (by rw [e]; rfl))
    refine V_lload_n dX0_divisor_10 rfl ?_
    refine V_lload_n dX0_divisor_11 rfl ?_
    refine V_lload_n dX0_divisor_12 rfl ?_
    refine V_lrem dX0_divisor_13 (fun e => hb0 ((pk_lEQ (b := 0) hb (by decide)).mp e)) ?_
    rw [pk_lRem ha (Nat.pos_of_ne_zero hb0) hb]
    refine Vq_s (hc hb0) dX0_divisor_14 (lw_S q1003 q1004 q95 q1005) hs_X0_divisor ⟨he, by decide⟩ rfl (Nat.le_of_ble_eq_true rfl) ?_
    exact V_lreturn dX0_divisor_17 rfl hQ
  · have e : b = 0 := (pk_lEQ (b := 0) hb (by decide)).mp ((lg_cmp_eq _ _).mp c3)
    have hz := hz e
    subst hz
    refine V_lload_n dX0_divisor_6 rfl ?_
    refine V_goto (tgt := 17) dX0_divisor_7 (by decide) ?_
    exact V_lreturn dX0_divisor_17 rfl hQ
set_option maxHeartbeats 4000000 in
theorem x_div0 (l : Launch) {w : xW} {d a : Nat} (ha : a < 2 ^ 63) : Cq l yX0_divisor cX0_divisor 4 (some .long) d [.long (lN a), .long (lN 0)] w (some (.long (lN (Nat.gcd a 0)))) := by
  refine Cq_start (ls := [some (.long (lN a)), none, some (.long (lN 0)), none]) (by decide) rfl (Nat.le_of_ble_eq_true rfl) ?_
  intro Q hQ
  rw [Nat.gcd_zero_right] at hQ
  refine V_lload_n dX0_divisor_0 rfl ?_
  refine V_lconst (v := 0) dX0_divisor_1 (by rfl) ?_
  refine V_lcmp dX0_divisor_2 ?_
  refine V_if_ne (tgt := 10) dX0_divisor_3 (by decide) (fun c3 => ?_) (fun c3 => ?_)
  · exact absurd ((lg_cmp_eq _ _).mpr rfl) c3
  · refine V_lload_n dX0_divisor_6 rfl ?_
    refine V_goto (tgt := 17) dX0_divisor_7 (by decide) ?_
    exact V_lreturn dX0_divisor_17 rfl hQ
theorem div_s {w : xW} (l : Launch) (n : Nat) (hD : (∀ a b, a < 2 ^ 63 → b < 2 ^ 63 → b < 2 ^ n → Cq l yX0_divisor cX0_divisor 4 (some .long) (2 * n) [.long (lN a), .long (lN b)] w (some (.long (lN (Nat.gcd a b)))))) : (∀ a b, a < 2 ^ 63 → b < a → a < 2 ^ (n + 1) → Cq l yX0_divisor cX0_divisor 4 (some .long) (2 * n + 1) [.long (lN a), .long (lN b)] w (some (.long (lN (Nat.gcd a b))))) := by
  intro a b ha hb hn
  refine x_div1 l (e := 2 * n) ha (by omega) (fun e => by rw [e, Nat.gcd_zero_right]) (fun h0 => ?_) (by omega)
  have hr := Nat.mod_lt a (Nat.pos_of_ne_zero h0)
  have hq : 2 * (a % b) < a := by
    have e := Nat.div_add_mod a b
    have h1 : 1 ≤ a / b := (Nat.one_le_div_iff (Nat.pos_of_ne_zero h0)).mpr (Nat.le_of_lt hb)
    have h2 : b * 1 ≤ b * (a / b) := Nat.mul_le_mul_left b h1
    omega
  rw [Nat.gcd_comm, Nat.gcd_rec, Nat.gcd_comm]
  exact hD b (a % b) (by omega) (by omega) (by rw [Nat.pow_succ] at hn; omega)
theorem div_b {w : xW} (l : Launch) (n : Nat) : (∀ a b, a < 2 ^ 63 → b < 2 ^ 63 → b < 2 ^ n → Cq l yX0_divisor cX0_divisor 4 (some .long) (2 * n) [.long (lN a), .long (lN b)] w (some (.long (lN (Nat.gcd a b))))) ∧ (∀ a b, a < 2 ^ 63 → b < a → a < 2 ^ (n + 1) → Cq l yX0_divisor cX0_divisor 4 (some .long) (2 * n + 1) [.long (lN a), .long (lN b)] w (some (.long (lN (Nat.gcd a b))))) := by
  induction n with
  | zero =>
    have hD : (∀ a b, a < 2 ^ 63 → b < 2 ^ 63 → b < 2 ^ 0 → Cq l yX0_divisor cX0_divisor 4 (some .long) (2 * 0) [.long (lN a), .long (lN b)] w (some (.long (lN (Nat.gcd a b))))) := by
      intro a b ha hb hn
      have e : b = 0 := by have : 2 ^ 0 = 1 := rfl; omega
      subst e
      exact x_div0 l ha
    exact ⟨hD, div_s l 0 hD⟩
  | succ n ih =>
    have hD : (∀ a b, a < 2 ^ 63 → b < 2 ^ 63 → b < 2 ^ (n + 1) → Cq l yX0_divisor cX0_divisor 4 (some .long) (2 * (n + 1)) [.long (lN a), .long (lN b)] w (some (.long (lN (Nat.gcd a b))))) := by
      intro a b ha hb hn
      refine x_div1 l (e := 2 * n + 1) ha hb (fun e => by rw [e, Nat.gcd_zero_right]) (fun h0 => ?_) (by omega)
      have hr := Nat.mod_lt a (Nat.pos_of_ne_zero h0)
      rw [Nat.gcd_comm, Nat.gcd_rec, Nat.gcd_comm]
      exact ih.2 b (a % b) hb hr hn
    exact ⟨hD, div_s l (n + 1) hD⟩
set_option maxHeartbeats 4000000 in
theorem x_part (l : Launch) {w : xW} {a b : Nat} {what : Int32} (ha : a < 2 ^ 63) (hb : b < 2 ^ 33) (h0 : 0 < b) : Cq l yX0_part cX0_part 5 (some .long) 67 [.long (lN a), .long (lN b), .int what] w (some (.long (loV a b what))) := by
  refine Cq_start (ls := [some (.long (lN a)), none, some (.long (lN b)), none, some (.int what)]) (by decide) rfl (Nat.le_of_ble_eq_true rfl) ?_
  intro Q hQ
  have hb63 : b < 2 ^ 63 := by omega
  have hg0 : 0 < Nat.gcd a b := Nat.gcd_pos_of_pos_right _ h0
  have hgl : Nat.gcd a b < 2 ^ 63 := Nat.lt_of_le_of_lt (Nat.gcd_le_right a h0) hb63
  refine V_iload dX0_part_0 rfl ?_
  refine V_if_ne (tgt := 9) dX0_part_2 (by decide) (fun c2 => ?_) (fun c2 => ?_)
  · refine V_lload_n dX0_part_9 rfl ?_
    refine V_lload_n dX0_part_10 rfl ?_
    refine V_lload_n dX0_part_11 rfl ?_
    refine Vq_s ((div_b l 33).1 a b ha hb63 hb) dX0_part_12 (lw_S q1003 q1004 q95 q1005) hs_X0_divisor (by decide) rfl (Nat.le_of_ble_eq_true rfl) ?_
    refine V_ldiv dX0_part_15 (fun e => absurd ((pk_lEQ (b := 0) hgl (by decide)).mp e) (by omega)) ?_
    rw [pk_lDiv hb63 hg0 hgl]
    exact V_lreturn dX0_part_16 rfl (by unfold loV at hQ; rw [if_neg c2] at hQ; exact hQ)
  · refine V_lload_n dX0_part_5 rfl ?_
    refine V_goto (tgt := 10) dX0_part_6 (by decide) ?_
    refine V_lload_n dX0_part_10 rfl ?_
    refine V_lload_n dX0_part_11 rfl ?_
    refine Vq_s ((div_b l 33).1 a b ha hb63 hb) dX0_part_12 (lw_S q1003 q1004 q95 q1005) hs_X0_divisor (by decide) rfl (Nat.le_of_ble_eq_true rfl) ?_
    refine V_ldiv dX0_part_15 (fun e => absurd ((pk_lEQ (b := 0) hgl (by decide)).mp e) (by omega)) ?_
    rw [pk_lDiv ha hg0 hgl]
    exact V_lreturn dX0_part_16 rfl (by unfold loV at hQ; rw [if_pos c2] at hQ; exact hQ)
set_option maxHeartbeats 4000000 in
theorem x_wordOf (l : Launch) {R X : xSt} (h : PT R X) (h10 : R 10 0 = X 10 0) {c k day : Nat} {what : Int32} (hc : c ≤ 16) (hk : k < vN (R 2 0)) (hday : day < 24) : Cx l yX0_wordOf (wsW_ yX0_wordOf cX0_wordOf 12 (some .long) [(12, 110, 118, 0), (118, 120, 118, 0)]) 69 [.ref 0, .int (nI c), .int (nI k), .int (nI day), .int what] X (fun r X' => ∃ x, r = some (.long x) ∧ x = (wordF c k day what R).1 ∧ PT R X' ∧ FV X X') := by
  refine Cz_startW (ls := [some (.ref 0), some (.int (nI c)), some (.int (nI k)), some (.int (nI day)), some (.int what), none, none, none, none, none, none, none]) (by decide) rfl (Nat.le_of_ble_eq_true rfl) fF_lo ?_
  intro Q hQ
  have hl := h.1.1.2.1
  have p2 := bd_v h.1.2.2.2.2.1.1 (by decide)
  have q8 := bd_v h.1.1.2.2.2.2.2.2.2.2.2.2.1 (by decide)
  rw [← h10] at q8
  have hq : cnt X 2 = vN (R 10 0) := by rw [h10]; rfl
  generalize hqq : vN (R 10 0) = q at hq q8
  obtain ⟨h16, h2q, h4q, h4p⟩ := p16 q8.2
  have L : ∀ (j s sm : Nat) (T1 X1 : xSt), s + j = 2 ^ q → sm / 4294967296 ≤ s → XB R X1 → AP R T1 → PV T1 → HG R T1 → T1 26 0 = nI 0 → FV X X1 → X1 45 0 = -1 ∧ X1 45 2 = -1 ∧ X1 25 0 = nI s ∧ X1 26 0 = nI 0 → woK c k day q j s sm T1 = woF c k day R → V l (yX0_wordOf.cls, cX0_wordOf, 12, (some .long), [(12, 110, 118, 0), (118, 120, 118, 0)], yX0_wordOf.name) (rmD 69 (rc X) (rs X), fF X, Q, xX0) 17 [some (.ref 0), some (.int (nI c)), some (.int (nI k)), some (.int (nI day)), some (.int what), some (.int (nI q)), some (.long (lN (sm))), none, none, none, none, none] [] (wX X1) (rc X1) (rs X1) := by
    intro j
    induction j with
    | zero =>
      intro s sm T1 X1 hij hb hB hA hP hG h26 hV hO hR
      have hR : (sm, T1) = woF c k day R := hR
      have o1 : od X1 (mwr X1 25 0 (nI 0)) := od_wr (od_rf X1) (by omega)
      refine V_aload_n dX0_wordOf_17 rfl ?_
      refine V_getf (i := 12) k_X0 dX0_wordOf_18 (by decide) q239 (wX_obj _) rfl ?_
      rw [hO.2.2.1]
      refine V_iconst dX0_wordOf_21 li_1 ?_
      refine V_iload dX0_wordOf_22 rfl ?_
      refine V_ishl dX0_wordOf_24 ?_
      refine V_topi (shq q8.2) ?_
      refine V_icmp_geN (tgt := 110) dX0_wordOf_25 (by decide) (by omega) (by omega) (fun c25 => ?_) (fun c25 => ?_)
      · refine V_aload_n dX0_wordOf_110 rfl ?_
        refine V_iconst dX0_wordOf_111 li_0 ?_
        refine Vx_put12 dX0_wordOf_112 q239 ?_
        refine V_goto (tgt := 128) dX0_wordOf_115 (by decide) ?_
        refine V_lload dX0_wordOf_128 rfl ?_
        refine V_lconst (v := 1) dX0_wordOf_130 (by rfl) ?_
        refine V_iconst dX0_wordOf_131 li_4 ?_
        refine V_iload dX0_wordOf_132 rfl ?_
        refine V_imulN dX0_wordOf_134 ?_
        refine V_lshl dX0_wordOf_135 rfl ?_
        refine V_topl (shl4 q8.2) ?_
        refine V_iload dX0_wordOf_136 rfl ?_
        refine Vq_s (x_part l (a := sm) (b := 2 ^ (4 * q)) (what := what) (by omega) (by omega) h4p) dX0_wordOf_138 (lw_S q1000 q1001 q95 q1002) hs_X0_part (by decide) rfl (Nat.le_of_ble_eq_true rfl) ?_
        exact V_lreturn dX0_wordOf_141 rfl (hQ _ _ ⟨_, rfl, ⟨by unfold wordF; rw [← hR, hqq], PT_xb h hB hV o1 ⟨hO.1, hO.2.1, mwr_s _ _ _ _, hO.2.2.2⟩, FV_tr hV (FV_od o1)⟩⟩)
      · exact absurd c25 (by omega)
    | succ j ih =>
      intro s sm T1 X1 hij hb hB hA hP hG h26 hV hO hR
      have hA2 : AP R (mwr T1 25 0 (nI s)) := AP_tr hA (AP_wr (by omega))
      have hP2 : PV (mwr T1 25 0 (nI s)) := PV_wr (by omega) hP
      have hG2 : HG R (mwr T1 25 0 (nI s)) := HG_wr hG (by omega)
      have hX1 : XT (mwr T1 25 0 (nI s)) X1 := XB_XT hB hA2 hP2 (XK_h (KD_FV h.2.1 hV) hG2 hO.1 (by rw [mwr_s]; exact hO.2.2.1) (hO.2.2.2.trans h26.symm)) (XO_h (KD_FV h.2.1 hV) hG2 hA2 hO.2.1)
      have hw : wtF c q s ≤ 1 * 16 ^ q := wtK_le hc _ _ _ _
      have hv : woV c k day q s T1 ≤ wtF c q s := by unfold woV; split <;> omega
      have hst : ∃ T2, AP R T2 ∧ PV T2 ∧ HG R T2 ∧ T2 26 0 = nI 0 ∧ woK c k day q j (s + 1) (sm + woV c k day q s T1) T2 = woF c k day R := by
        by_cases e : wtF c q s = 0
        · have e2 : woV c k day q s T1 = 0 := by omega
          rw [e2]
          exact ⟨T1, hA, hP, hG, h26, by rw [← hR, woK_s, if_pos e]; rfl⟩
        · exact ⟨runsF (mwr T1 25 0 (nI s)), AP_tr hA2 (AP_fr (runsF_fr _)), PV_fr (runsF_fr _) hP2, HG_fr hG2 (runsF_fr _), (congrFun (runsF_fr _ 26 (by omega)) 0).trans h26, by rw [← hR, woK_s, if_neg e]⟩
      obtain ⟨T2, hA3, hP3, hG3, h263, hR3⟩ := hst
      refine V_aload_n dX0_wordOf_17 rfl ?_
      refine V_getf (i := 12) k_X0 dX0_wordOf_18 (by decide) q239 (wX_obj _) rfl ?_
      rw [hO.2.2.1]
      refine V_iconst dX0_wordOf_21 li_1 ?_
      refine V_iload dX0_wordOf_22 rfl ?_
      refine V_ishl dX0_wordOf_24 ?_
      refine V_topi (shq q8.2) ?_
      refine V_icmp_geN (tgt := 110) dX0_wordOf_25 (by decide) (by omega) (by omega) (fun c25 => ?_) (fun c25 => ?_)
      · exact absurd c25 (by omega)
      · refine V_aload_n dX0_wordOf_28 rfl ?_
        refine Vz_vV (k' := 0) (n' := 0) (x_find l hX1) dX0_wordOf_29 (lw_V q789 q791 qs9 q95 q792) hv_X0_find (by decide) (wX_obj _) cl_X0 rfl rfl (Nat.le_of_ble_eq_true rfl) (fF_FV hV) (okl_c (ok_r (fF_ok (.inl (Nat.le_of_ble_eq_true rfl)))) (okl_c ok_i (okl_c ok_i (okl_c ok_i (okl_c ok_i (okl_c ok_i (okl_c ok_l (okl_n (okl_n (okl_n (okl_n (okl_n okl_0)))))))))))) oks_0 ⟨Nat.le_refl _, Nat.le_refl _⟩ (fun X2 h2 => ?_)
        have hQ2 := RQ_of h2.1 h2.2.1
        have hV2 : FV X X2 := FV_tr hV (FV_FW h2.2.2)
        have hB2 : XB R X2 := XB_run h2.1 hA2
        have hO2 : X2 45 0 = -1 ∧ X2 45 2 = -1 ∧ X2 25 0 = nI s ∧ X2 26 0 = nI 0 := by rw [h2.2.2.1 45 (by omega), h2.2.2.1 25 (by omega), h2.2.2.1 26 (by omega)]; exact hO
        have hk2 : k < vN (runsF (mwr T1 25 0 (nI s)) 2 0) := by rw [runsF_fr _ 2 (by omega), hA2.2.1]; exact hk
        have J97 : V l (yX0_wordOf.cls, cX0_wordOf, 12, (some .long), [(12, 110, 118, 0), (118, 120, 118, 0)], yX0_wordOf.name) (rmD 69 (rc X) (rs X), fF X, Q, xX0) 97 [some (.ref 0), some (.int (nI c)), some (.int (nI k)), some (.int (nI day)), some (.int what), some (.int (nI q)), some (.long (lN (sm + woV c k day q s T1))), none, none, none, none, none] [] (wX X2) 0 0 := by
          refine V_aload_n dX0_wordOf_97 rfl ?_
          refine V_dup dX0_wordOf_98 rfl ?_
          refine V_getf (i := 12) k_X0 dX0_wordOf_99 (by decide) q239 (wX_obj _) rfl ?_
          rw [hO2.2.2.1]
          refine V_iconst dX0_wordOf_102 li_1 ?_
          refine V_iaddN dX0_wordOf_103 ?_
          refine Vx_put12 dX0_wordOf_104 q239 ?_
          refine V_goto (tgt := 17) dX0_wordOf_107 (by decide) ?_
          have o1 : od X2 (mwr X2 25 0 (nI (s + 1))) := od_wr (od_rf X2) (by omega)
          have e0 := rc_0 (X := mwr X2 25 0 (nI (s + 1))) ⟨h2.1.2.1.1, h2.1.2.1.2⟩
          have z := ih (s + 1) (sm + woV c k day q s T1) T2 (mwr X2 25 0 (nI (s + 1))) (by omega) (by omega) (XB_od hB2 o1) hA3 hP3 hG3 h263 (FV_tr hV2 (FV_od o1)) ⟨hO2.1, hO2.2.1, mwr_s _ _ _ _, hO2.2.2.2⟩ hR3
          rw [e0.1, e0.2] at z
          exact z
        have L50 : fitP (runsF (mwr T1 25 0 (nI s))) day k → ∀ (i f w : Nat), f + i = q → wtK c (nI s) i f w = wtF c q s → V l (yX0_wordOf.cls, cX0_wordOf, 12, (some .long), [(12, 110, 118, 0), (118, 120, 118, 0)], yX0_wordOf.name) (rmD 69 (rc X) (rs X), fF X, Q, xX0) 50 [some (.ref 0), some (.int (nI c)), some (.int (nI k)), some (.int (nI day)), some (.int what), some (.int (nI q)), some (.long (lN (sm))), none, some (.long (lN w)), none, some (.int (nI f)), none] [] (wX X2) 0 0 := by
          intro hfit i
          induction i with
          | zero =>
            intro f w hi hR2
            have hR2 : w = wtF c q s := hR2
            subst hR2
            refine V_iload dX0_wordOf_50 rfl ?_
            refine V_iload dX0_wordOf_52 rfl ?_
            refine V_icmp_geN (tgt := 90) dX0_wordOf_54 (by decide) (by omega) (by omega) (fun c54 => ?_) (fun c54 => ?_)
            · refine V_lload dX0_wordOf_90 rfl ?_
              refine V_lload dX0_wordOf_92 rfl ?_
              refine V_ladd dX0_wordOf_94 ?_
              rw [lN_add]
              refine V_lstore dX0_wordOf_95 rfl (Nat.le_of_ble_eq_true rfl) (Nat.le_of_ble_eq_true rfl) ?_
              refine V_forget 8 ?_
              refine V_forget 10 ?_
              have e : woV c k day q s T1 = wtF c q s := if_pos hfit
              rw [e] at J97
              exact J97
            · exact absurd c54 (by omega)
          | succ i ih2 =>
            intro f w hi hR2
            refine V_iload dX0_wordOf_50 rfl ?_
            refine V_iload dX0_wordOf_52 rfl ?_
            refine V_icmp_geN (tgt := 90) dX0_wordOf_54 (by decide) (by omega) (by omega) (fun c54 => ?_) (fun c54 => ?_)
            · exact absurd c54 (by omega)
            · refine V_lload dX0_wordOf_57 rfl ?_
              refine V_aload_n dX0_wordOf_59 rfl ?_
              refine V_getf (i := 12) k_X0 dX0_wordOf_60 (by decide) q239 (wX_obj _) rfl ?_
              rw [hO2.2.2.1]
              refine V_iload dX0_wordOf_63 rfl ?_
              refine Vs_callIF (s_isIn l _ _) dX0_wordOf_65 (lw_S q818 q819 q95 q820) hs_X0_isIn (by decide) rfl (Nat.le_of_ble_eq_true rfl) ?_
              refine V_if_eqB (tgt := 79) dX0_wordOf_68 (by decide) (fun c68 => ?_) (fun c68 => ?_)
              · refine V_iload_n dX0_wordOf_79 rfl ?_
                refine V_i2l dX0_wordOf_80 rfl ?_
                refine V_topl (nI_l (by omega)) ?_
                refine V_lmul dX0_wordOf_81 ?_
                rw [lN_mul]
                refine V_lstore dX0_wordOf_82 rfl (Nat.le_of_ble_eq_true rfl) (Nat.le_of_ble_eq_true rfl) ?_
                refine V_iinc dX0_wordOf_84 rfl (iinc_1 _) rfl (Nat.le_of_ble_eq_true rfl) ?_
                refine V_goto (tgt := 50) dX0_wordOf_87 (by decide) ?_
                exact ih2 (f + 1) _ (by omega) (by rw [← hR2, wtK_s, if_neg c68])
              · refine V_bipush dX0_wordOf_71 lb_16 ?_
                refine V_iload_n dX0_wordOf_73 rfl ?_
                refine V_isubN dX0_wordOf_74 (by omega) ?_
                refine V_i2l dX0_wordOf_75 rfl ?_
                refine V_topl (nI_l (by omega)) ?_
                refine V_goto (tgt := 81) dX0_wordOf_76 (by decide) ?_
                refine V_lmul dX0_wordOf_81 ?_
                rw [lN_mul]
                refine V_lstore dX0_wordOf_82 rfl (Nat.le_of_ble_eq_true rfl) (Nat.le_of_ble_eq_true rfl) ?_
                refine V_iinc dX0_wordOf_84 rfl (iinc_1 _) rfl (Nat.le_of_ble_eq_true rfl) ?_
                refine V_goto (tgt := 50) dX0_wordOf_87 (by decide) ?_
                exact ih2 (f + 1) _ (by omega) (by rw [← hR2, wtK_s, if_pos c68])
        refine V_aload_n dX0_wordOf_32 rfl ?_
        refine V_iload_n dX0_wordOf_33 rfl ?_
        refine V_iload_n dX0_wordOf_34 rfl ?_
        refine Vq_v (x_isFit l hQ2 hday hk2) dX0_wordOf_35 (lw_V q845 q847 qs16 q95 q848) hv_X0_isFit (by decide) (wX_obj _) cl_X0 rfl rfl (Nat.le_of_ble_eq_true rfl) ?_
        refine V_if_neB (tgt := 44) dX0_wordOf_38 (by decide) (fun c38 => ?_) (fun c38 => ?_)
        · refine V_lconst (v := 1) dX0_wordOf_44 (by rfl) ?_
          refine V_topl (show (1 : Int64) = lN 1 from rfl) ?_
          refine V_lstore dX0_wordOf_45 rfl (Nat.le_of_ble_eq_true rfl) (Nat.le_of_ble_eq_true rfl) ?_
          refine V_iconst dX0_wordOf_47 li_0 ?_
          refine V_istore dX0_wordOf_48 rfl (Nat.le_of_ble_eq_true rfl) (Nat.le_of_ble_eq_true rfl) ?_
          exact L50 c38 q 0 1 (by omega) rfl
        · refine V_goto (tgt := 97) dX0_wordOf_41 (by decide) ?_
          have e : woV c k day q s T1 = 0 := if_neg c38
          rw [e] at J97
          exact J97
  refine V_aload_n dX0_wordOf_0 rfl ?_
  refine V_getf (i := 3) k_X0 dX0_wordOf_1 (by decide) q230 (wX_obj _) rfl ?_
  refine V_size (q := 2) (hl 2 (by decide)) dX0_wordOf_4 (lw_V q725 q365 q366 q100 q367) (Nat.le_of_ble_eq_true rfl) (by decide) ?_
  rw [hq]
  refine V_istore dX0_wordOf_7 rfl (Nat.le_of_ble_eq_true rfl) (Nat.le_of_ble_eq_true rfl) ?_
  refine V_lconst (v := 0) dX0_wordOf_9 (by rfl) ?_
  refine V_topl (show (0 : Int64) = lN 0 from rfl) ?_
  refine V_lstore dX0_wordOf_10 rfl (Nat.le_of_ble_eq_true rfl) (Nat.le_of_ble_eq_true rfl) ?_
  refine V_aload_n dX0_wordOf_12 rfl ?_
  refine V_iconst dX0_wordOf_13 li_0 ?_
  refine Vx_put12 dX0_wordOf_14 q239 ?_
  have o1 : od X (mwr X 25 0 (nI 0)) := od_wr (od_rf X) (by omega)
  exact L (2 ^ q) 0 0 R (mwr X 25 0 (nI 0)) (Nat.zero_add _) (by omega) (XB_od (XB_0 h.1) o1) (AP_rf R) h.1.2.2.2.2.1 (HG_rf R) h.2.1.2.2.2.1 (FV_od o1) ⟨h.2.2.1, h.2.2.2.1, mwr_s _ _ _ _, h.2.2.2.2.2⟩ (by unfold woF; rw [hqq])
