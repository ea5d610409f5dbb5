/-! the model: hushes, what is seen, never, sizes, sorts, ask -/
set_option maxRecDepth 100000
def hsF (b : Int32) (S : xSt) : xSt := runsF (mwr S 26 0 b)
abbrev hsQ (b : Int32) (S : xSt) : Prop := nakedF (hsF b S) 23 = 0
theorem LI_hs {S0 S : xSt} (b : Int32) (h : LI S0 S) : LI S0 (hsF b S) := LI_run (LI_wr (by omega) h)
abbrev sh1 (a : Nat) : Int32 := nI 1 <<< (nI a &&& 31)
abbrev hbW (a b : Nat) (S : xSt) : xSt := mwr (mwr S 33 0 (nI a)) 33 1 (nI b)
def hb2 (a : Nat) (K : xSt → Int32 × xSt) : Nat → Nat → xSt → Int32 × xSt
  | 0, _, S => K S
  | j + 1, b, S => if hsQ (sh1 a ||| sh1 b) (hbW a b S) then (nI 2, hsF (sh1 a ||| sh1 b) (hbW a b S)) else hb2 a K j (b + 1) (hsF (sh1 a ||| sh1 b) (hbW a b S))
theorem hb2_s (a : Nat) (K : xSt → Int32 × xSt) (j b : Nat) (S : xSt) : hb2 a K (j + 1) b S = if hsQ (sh1 a ||| sh1 b) (hbW a b S) then (nI 2, hsF (sh1 a ||| sh1 b) (hbW a b S)) else hb2 a K j (b + 1) (hsF (sh1 a ||| sh1 b) (hbW a b S)) := rfl
def hb1 (n : Nat) : Nat → Nat → xSt → Int32 × xSt
  | 0, _, S => (-1, S)
  | j + 1, a, S => hb2 a (fun S' => hb1 n j (a + 1) S') (n - (a + 1)) (a + 1) S
theorem hb1_s (n j a : Nat) (S : xSt) : hb1 n (j + 1) a S = hb2 a (fun S' => hb1 n j (a + 1) S') (n - (a + 1)) (a + 1) S := rfl
def hb0 (n : Nat) : Nat → Nat → xSt → Int32 × xSt
  | 0, _, S => hb1 n n 0 S
  | j + 1, a, S => if hsQ (sh1 a) (mwr S 33 0 (nI a)) then (nI 1, hsF (sh1 a) (mwr S 33 0 (nI a))) else hb0 n j (a + 1) (hsF (sh1 a) (mwr S 33 0 (nI a)))
theorem hb0_s (n j a : Nat) (S : xSt) : hb0 n (j + 1) a S = if hsQ (sh1 a) (mwr S 33 0 (nI a)) then (nI 1, hsF (sh1 a) (mwr S 33 0 (nI a))) else hb0 n j (a + 1) (hsF (sh1 a) (mwr S 33 0 (nI a))) := rfl
def hushF (R : xSt) : Int32 × xSt := if hsQ (nI 0) R then (nI 0, hsF (nI 0) R) else hb0 (vN (R 13 0)) (vN (R 13 0)) 0 (hsF (nI 0) R)

set_option maxHeartbeats 4000000 in
theorem m_isHushed (l : Launch) (S : xSt) (b : Int32) (hP : PV S) : Cm l yX5_isHushed cX5_isHushed 2 (some .boolean) 6 [.int b] S (fun r S' => ∃ x, r = some (.int x) ∧ x = bI (hsQ b S) ∧ S' = hsF b S) := by
  refine Cm_start (ls := [some (.ref 1000), some (.int b)]) (by decide) rfl (Nat.le_of_ble_eq_true rfl) ?_
  intro Q hQ
  refine V_aload_n dX5_isHushed_0 rfl ?_
  refine V_iload_n dX5_isHushed_1 rfl ?_
  refine Vm_putI 26 dX5_isHushed_2 q1190 (by decide) ?_
  refine V_aload_n dX5_isHushed_5 rfl ?_
  refine Vm_callVF (m_runs l _ (PV_wr (by omega) hP)) dX5_isHushed_6 (lw_V q1421 q1423 qs57 q103 q1424) hv_X5_runs (by decide) rfl (Nat.le_of_ble_eq_true rfl) ?_
  refine V_aload_n dX5_isHushed_9 rfl ?_
  refine V_bipush dX5_isHushed_10 lb_23 ?_
  refine Vm_callIF (m_nakedNow l _ _ (by omega) (PV_fr (runsF_fr _) (PV_wr (by omega) hP)).1) dX5_isHushed_12 (lw_V q1484 q1486 qs69 q103 q1487) hv_X5_nakedNow (by decide) rfl (Nat.le_of_ble_eq_true rfl) ?_
  refine V_if_ne (tgt := 22) dX5_isHushed_15 (by decide) (fun c15 => ?_) (fun c15 => ?_)
  · refine V_iconst dX5_isHushed_22 li_0 ?_
    exact V_zreturn dX5_isHushed_23 rfl (by first | exact bI_nr | exact nr_0 | exact nr_1) (hQ _ _ ⟨_, rfl, ⟨bI_f c15, rfl⟩⟩)
  · refine V_iconst dX5_isHushed_18 li_1 ?_
    refine V_goto (tgt := 23) dX5_isHushed_19 (by decide) ?_
    exact V_zreturn dX5_isHushed_23 rfl (by first | exact bI_nr | exact nr_0 | exact nr_1) (hQ _ _ ⟨_, rfl, ⟨bI_t c15, rfl⟩⟩)
set_option maxHeartbeats 4000000 in
theorem m_hushBy (l : Launch) (S : xSt) (hS : MI S) : Cm l yX5_hushBy cX5_hushBy 3 (some .int) 8 [] S (fun r S' => ∃ x, r = some (.int x) ∧ x = (hushF (asToldF S)).1 ∧ S' = (hushF (asToldF S)).2) := by
  refine Cm_start (ls := [some (.ref 1000), none, none]) (by decide) rfl (Nat.le_of_ble_eq_true rfl) ?_
  intro Q hQ
  have hT := m_asTold l S hS
  have hL := LI_0 hS
  obtain ⟨pp, hpp, hp0⟩ := hL.1.1
  obtain ⟨mm, hmm, hm0⟩ := hL.1.2.1
  obtain ⟨qq, hqq, hq0⟩ : bd (asToldF S 10 0) 8 := (MI_asTold hS).2.2.1
  have hvp : vN (asToldF S 2 0) = pp := by rw [hp0]; exact vN_nI (by omega)
  have hvm : vN (asToldF S 5 0) = mm := by rw [hm0]; exact vN_nI (by omega)
  have hvq : vN (asToldF S 10 0) = qq := by rw [hq0]; exact vN_nI (by omega)
  obtain ⟨ll, hll, hl0⟩ := hL.1.2.2.2.2.2.2.1
  have hvl : vN (asToldF S 13 0) = ll := by rw [hl0]; exact vN_nI (by omega)
  generalize asToldF S = R at hQ hT hL hp0 hm0 hq0 hvp hvm hvq hl0 hvl
  have L51 : ∀ (j a : Nat) (S1 : xSt) (xx : Option Value) (hj : a + j = ll) (h1 : LI R S1) (hR : hb1 ll j a S1 = hushF R), V l (yX5_hushBy.cls, cX5_hushBy, 3, (some .int), [], yX5_hushBy.name) (rmD 8 0 0, xF0, Q, xX0) 51 [some (.ref 1000), some (.int (nI a)), xx] [] (mW S1) 0 0 := by
    intro j
    induction j with
    | zero =>
      intro a S1 xx hj h1 hR
      refine V_iload_n dX5_hushBy_51 rfl ?_
      refine V_aload_n dX5_hushBy_52 rfl ?_
      refine Vm_getI 13 dX5_hushBy_53 q1177 (by decide) ?_
      refine V_topi (LI_g h1 hl0 (by omega)) ?_
      refine V_icmp_ge (tgt := 113) dX5_hushBy_56 (by decide) (fun _ => ?_) (fun c56 => absurd (nI_le (by omega) (by omega)) c56)
      refine V_iconst dX5_hushBy_113 li_m1 ?_
      exact V_ireturn dX5_hushBy_114 rfl (hQ _ _ ⟨_, rfl, ⟨by rw [← hR]; rfl, by rw [← hR]; rfl⟩⟩)
    | succ j ih =>
      intro a S1 xx hj h1 hR
      have L63 : ∀ (i c : Nat) (S2 : xSt) (hi : c + i = ll) (hac : a < c) (h2 : LI R S2) (hR : hb2 a (fun S' => hb1 ll j (a + 1) S') i c S2 = hushF R), V l (yX5_hushBy.cls, cX5_hushBy, 3, (some .int), [], yX5_hushBy.name) (rmD 8 0 0, xF0, Q, xX0) 63 [some (.ref 1000), some (.int (nI a)), some (.int (nI c))] [] (mW S2) 0 0 := by
        intro i
        induction i with
        | zero =>
          intro c S2 hi hac h2 hR
          refine V_iload_n dX5_hushBy_63 rfl ?_
          refine V_aload_n dX5_hushBy_64 rfl ?_
          refine Vm_getI 13 dX5_hushBy_65 q1177 (by decide) ?_
          refine V_topi (LI_g h2 hl0 (by omega)) ?_
          refine V_icmp_ge (tgt := 107) dX5_hushBy_68 (by decide) (fun _ => ?_) (fun c68 => absurd (nI_le (by omega) (by omega)) c68)
          refine V_iinc dX5_hushBy_107 rfl (iinc_1 _) rfl (Nat.le_of_ble_eq_true rfl) ?_
          refine V_goto (tgt := 51) dX5_hushBy_110 (by decide) ?_
          exact ih (a + 1) S2 _ (by omega) h2 hR
        | succ i ih2 =>
          intro c S2 hi hac h2 hR
          refine V_iload_n dX5_hushBy_63 rfl ?_
          refine V_aload_n dX5_hushBy_64 rfl ?_
          refine Vm_getI 13 dX5_hushBy_65 q1177 (by decide) ?_
          refine V_topi (LI_g h2 hl0 (by omega)) ?_
          refine V_icmp_ge (tgt := 107) dX5_hushBy_68 (by decide) (fun c68 => absurd c68 (nI_ge (by omega) (by omega))) (fun _ => ?_)
          refine V_aload_n dX5_hushBy_71 rfl ?_
          refine Vm_getA 33 dX5_hushBy_72 q1197 (by decide) ?_
          refine V_iconst dX5_hushBy_75 li_0 ?_
          refine V_iload_n dX5_hushBy_76 rfl ?_
          refine Vm_iast dX5_hushBy_77 (by first | rfl | assumption) (by show _ < 2; omega) (by decide) ?_
          refine V_aload_n dX5_hushBy_78 rfl ?_
          refine Vm_getA 33 dX5_hushBy_79 q1197 (by decide) ?_
          refine V_iconst dX5_hushBy_82 li_1 ?_
          refine V_iload_n dX5_hushBy_83 rfl ?_
          refine Vm_iast dX5_hushBy_84 (by first | rfl | assumption) (by show _ < 2; omega) (by decide) ?_
          refine V_aload_n dX5_hushBy_85 rfl ?_
          refine V_iconst dX5_hushBy_86 li_1 ?_
          refine V_iload_n dX5_hushBy_87 rfl ?_
          refine V_ishl dX5_hushBy_88 ?_
          refine V_iconst dX5_hushBy_89 li_1 ?_
          refine V_iload_n dX5_hushBy_90 rfl ?_
          refine V_ishl dX5_hushBy_91 ?_
          refine V_ior dX5_hushBy_92 ?_
          refine Vm_callIF (m_isHushed l _ _ ((LI_wr (by omega) (LI_wr (by omega) h2))).1) dX5_hushBy_93 (lw_V q1552 q1554 qs79 q103 q1555) hv_X5_isHushed (by decide) rfl (Nat.le_of_ble_eq_true rfl) ?_
          refine V_if_eqB (tgt := 101) dX5_hushBy_96 (by decide) (fun c96 => ?_) (fun c96 => ?_)
          · refine V_iinc dX5_hushBy_101 rfl (iinc_1 _) rfl (Nat.le_of_ble_eq_true rfl) ?_
            refine V_goto (tgt := 63) dX5_hushBy_104 (by decide) ?_
            exact ih2 (c + 1) _ (by omega) (by omega) (LI_hs _ (LI_wr (by omega) (LI_wr (by omega) h2))) (by rw [← hR, hb2_s, if_neg c96])
          · refine V_iconst dX5_hushBy_99 li_2 ?_
            exact V_ireturn dX5_hushBy_100 rfl (hQ _ _ ⟨_, rfl, ⟨by rw [← hR, hb2_s, if_pos c96], by rw [← hR, hb2_s, if_pos c96]⟩⟩)
      refine V_iload_n dX5_hushBy_51 rfl ?_
      refine V_aload_n dX5_hushBy_52 rfl ?_
      refine Vm_getI 13 dX5_hushBy_53 q1177 (by decide) ?_
      refine V_topi (LI_g h1 hl0 (by omega)) ?_
      refine V_icmp_ge (tgt := 113) dX5_hushBy_56 (by decide) (fun c56 => absurd c56 (nI_ge (by omega) (by omega))) (fun _ => ?_)
      refine V_iload_n dX5_hushBy_59 rfl ?_
      refine V_iconst dX5_hushBy_60 li_1 ?_
      refine V_iaddN dX5_hushBy_61 ?_
      refine V_istore_n dX5_hushBy_62 rfl (Nat.le_of_ble_eq_true rfl) (Nat.le_of_ble_eq_true rfl) ?_
      exact L63 (ll - (a + 1)) (a + 1) S1 (by omega) (by omega) h1 hR
  have L16 : ∀ (j : Nat) (a : Nat) (S1 : xSt) (hj : a + j = ll) (h1 : LI R S1) (hR : hb0 ll j a S1 = hushF R), V l (yX5_hushBy.cls, cX5_hushBy, 3, (some .int), [], yX5_hushBy.name) (rmD 8 0 0, xF0, Q, xX0) 16 [some (.ref 1000), some (.int (nI a)), none] [] (mW S1) 0 0 := by
    intro j
    induction j with
    | zero =>
      intro a S1 hj h1 hR
      refine V_iload_n dX5_hushBy_16 rfl ?_
      refine V_aload_n dX5_hushBy_17 rfl ?_
      refine Vm_getI 13 dX5_hushBy_18 q1177 (by decide) ?_
      refine V_topi (LI_g h1 hl0 (by omega)) ?_
      refine V_icmp_ge (tgt := 49) dX5_hushBy_21 (by decide) (fun _ => ?_) (fun c21 => absurd (nI_le (by omega) (by omega)) c21)
      refine V_iconst dX5_hushBy_49 li_0 ?_
      refine V_istore_n dX5_hushBy_50 rfl (Nat.le_of_ble_eq_true rfl) (Nat.le_of_ble_eq_true rfl) ?_
      exact L51 ll 0 S1 _ (by omega) h1 hR
    | succ j ih =>
      intro a S1 hj h1 hR
      refine V_iload_n dX5_hushBy_16 rfl ?_
      refine V_aload_n dX5_hushBy_17 rfl ?_
      refine Vm_getI 13 dX5_hushBy_18 q1177 (by decide) ?_
      refine V_topi (LI_g h1 hl0 (by omega)) ?_
      refine V_icmp_ge (tgt := 49) dX5_hushBy_21 (by decide) (fun c21 => absurd c21 (nI_ge (by omega) (by omega))) (fun _ => ?_)
      refine V_aload_n dX5_hushBy_24 rfl ?_
      refine Vm_getA 33 dX5_hushBy_25 q1197 (by decide) ?_
      refine V_iconst dX5_hushBy_28 li_0 ?_
      refine V_iload_n dX5_hushBy_29 rfl ?_
      refine Vm_iast dX5_hushBy_30 (by first | rfl | assumption) (by show _ < 2; omega) (by decide) ?_
      refine V_aload_n dX5_hushBy_31 rfl ?_
      refine V_iconst dX5_hushBy_32 li_1 ?_
      refine V_iload_n dX5_hushBy_33 rfl ?_
      refine V_ishl dX5_hushBy_34 ?_
      refine Vm_callIF (m_isHushed l _ _ (LI_wr (by omega) h1).1) dX5_hushBy_35 (lw_V q1552 q1554 qs79 q103 q1555) hv_X5_isHushed (by decide) rfl (Nat.le_of_ble_eq_true rfl) ?_
      refine V_if_eqB (tgt := 43) dX5_hushBy_38 (by decide) (fun c38 => ?_) (fun c38 => ?_)
      · refine V_iinc dX5_hushBy_43 rfl (iinc_1 _) rfl (Nat.le_of_ble_eq_true rfl) ?_
        refine V_goto (tgt := 16) dX5_hushBy_46 (by decide) ?_
        exact ih (a + 1) _ (by omega) (LI_hs _ (LI_wr (by omega) h1)) (by rw [← hR, hb0_s, if_neg c38])
      · refine V_iconst dX5_hushBy_41 li_1 ?_
        exact V_ireturn dX5_hushBy_42 rfl (hQ _ _ ⟨_, rfl, ⟨by rw [← hR, hb0_s, if_pos c38], by rw [← hR, hb0_s, if_pos c38]⟩⟩)
  refine V_aload_n dX5_hushBy_0 rfl ?_
  refine Vm_callVF hT dX5_hushBy_1 (lw_V q1417 q1419 qs56 q103 q1420) hv_X5_asTold (by decide) rfl (Nat.le_of_ble_eq_true rfl) ?_
  refine V_aload_n dX5_hushBy_4 rfl ?_
  refine V_iconst dX5_hushBy_5 li_0 ?_
  refine Vm_callIF (m_isHushed l _ _ (hL).1) dX5_hushBy_6 (lw_V q1552 q1554 qs79 q103 q1555) hv_X5_isHushed (by decide) rfl (Nat.le_of_ble_eq_true rfl) ?_
  refine V_if_eqB (tgt := 14) dX5_hushBy_9 (by decide) (fun c9 => ?_) (fun c9 => ?_)
  · refine V_iconst dX5_hushBy_14 li_0 ?_
    refine V_istore_n dX5_hushBy_15 rfl (Nat.le_of_ble_eq_true rfl) (Nat.le_of_ble_eq_true rfl) ?_
    exact L16 ll 0 _ (by omega) (LI_hs _ hL) (by unfold hushF; rw [if_neg c9, hvl])
  · refine V_iconst dX5_hushBy_12 li_0 ?_
    exact V_ireturn dX5_hushBy_13 rfl (hQ _ _ ⟨_, rfl, ⟨by unfold hushF; rw [if_pos c9], by unfold hushF; rw [if_pos c9]⟩⟩)
def hushP (i : Int32) (S : xSt) : Int32 × xSt := if -1 ≤ i ∧ i ≤ nI 1 then (ofRowF (hushF (asToldF S)).2 (hushF (asToldF S)).1 i, (hushF (asToldF S)).2) else (-2, S)
theorem bd_m1 {i : Int32} (h : -1 ≤ i ∧ i ≤ nI 1) : i = -1 ∨ bd i 1 := by
  by_cases e : i = -1
  · exact .inl e
  · right
    have h0 : ¬ i < 0 := by
      intro q
      apply e
      apply Int32.toInt_inj.mp
      have h1 := Int32.le_iff_toInt_le.mp h.1
      have h2 := Int32.lt_iff_toInt_lt.mp q
      have e1 : (-1 : Int32).toInt = -1 := by decide +kernel
      have e2 : (0 : Int32).toInt = 0 := by decide +kernel
      rw [e1] at h1
      rw [e2] at h2
      rw [e1]
      omega
    obtain ⟨j, hj, rfl⟩ := nI_of2 (M := nI 1) (nI_toInt (by decide)) h0 h.2
    exact ⟨j, hj, rfl⟩

set_option maxHeartbeats 4000000 in
theorem m_hush (l : Launch) (S : xSt) (i : Int32) (hS : MI S) : Cm l yX5_hush cX5_hush 2 (some .int) 9 [.int i] S (fun r S' => ∃ x, r = some (.int x) ∧ x = (hushP i S).1 ∧ S' = (hushP i S).2) := by
  refine Cm_start (ls := [some (.ref 1000), some (.int i)]) (by decide) rfl (Nat.le_of_ble_eq_true rfl) ?_
  intro Q hQ
  have hH := m_hushBy l S hS
  generalize hG : hushF (asToldF S) = G at hH
  obtain ⟨x0, S0⟩ := G
  refine V_iload_n dX5_hush_0 rfl ?_
  refine V_iconst dX5_hush_1 li_m1 ?_
  refine V_iconst dX5_hush_2 li_1 ?_
  refine Vs_callIF (m_in l _ _ _) dX5_hush_3 (lw_S q1308 q1309 q103 q1310) hs_X5_in (by decide) rfl (Nat.le_of_ble_eq_true rfl) ?_
  refine V_if_eqB (tgt := 21) dX5_hush_6 (by decide) (fun c6 => ?_) (fun c6 => ?_)
  · refine V_bipush dX5_hush_21 lb_m2 ?_
    exact V_ireturn dX5_hush_23 rfl (hQ _ _ ⟨_, rfl, ⟨by unfold hushP; rw [if_neg c6], by unfold hushP; rw [if_neg c6]⟩⟩)
  · refine V_aload_n dX5_hush_9 rfl ?_
    refine V_aload_n dX5_hush_10 rfl ?_
    refine Vm_callIF hH dX5_hush_11 (lw_V q1548 q1550 qs78 q103 q1551) hv_X5_hushBy (by decide) rfl (Nat.le_of_ble_eq_true rfl) ?_
    refine V_iload_n dX5_hush_14 rfl ?_
    refine Vm_callIF (m_ofRow l _ _ i (bd_m1 c6)) dX5_hush_15 (lw_V q1556 q1558 qs80 q103 q1559) hv_X5_ofRow (by decide) rfl (Nat.le_of_ble_eq_true rfl) ?_
    refine V_goto (tgt := 23) dX5_hush_18 (by decide) ?_
    exact V_ireturn dX5_hush_23 rfl (hQ _ _ ⟨_, rfl, ⟨by unfold hushP; rw [if_pos c6, hG], by unfold hushP; rw [if_pos c6, hG]⟩⟩)
