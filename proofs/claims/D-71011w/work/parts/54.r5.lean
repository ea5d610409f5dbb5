/-! PromiseTailor's side: keeps, breaks -/
set_option maxRecDepth 100000
theorem kt_eq : ∀ a, a < 100 → ∀ b, b < 10 → ∀ e, e < 10 → (if nI a < nI b then (if nI b < nI a + nI e then nI b else nI a + nI e) else (if nI a - nI e < nI b then nI b else nI a - nI e)) = clampI (nI a + ktX (nI b - nI a) (nI e)) := by decide +kernel
/-- a keeping kept, if it can be -/
def kqF (p : Nat) (S : xSt) : xSt := if S 5 0 ≤ nI p then S else if S 29 p = nI 1 then ktS p S else S
theorem kqF_fr (p : Nat) (S : xSt) : fr S (kqF p S) := by
  unfold kqF ktS
  by_cases h : S 5 0 ≤ nI p
  · rw [if_pos h]; exact fr_rf S
  · rw [if_neg h]
    by_cases g : S 29 p = nI 1
    · rw [if_pos g]; exact fr_cut (fr_mwr (fr_rf S) (by omega) _ _) _ _
    · rw [if_neg g]; exact fr_rf S
theorem RD_27 {T X : xSt} {k : Nat} (v : Int32) (hv : bd v 99) (h : RD T X) : RD (mwr T 27 k v) (mwr X 27 k v) := RD_wr (by decide) (DA_27 k v hv h.2.2) h
theorem sh_eq (s g : Int32) : -(shI s g) = -(lenI s g) - (if s = nI 2 then nI 2 else nI 0) := by
  unfold shI
  by_cases h : s = nI 2
  · rw [if_pos h, if_pos h, h, lenI_2, Int32.neg_add, Int32.sub_eq_add_neg]
  · rw [if_neg h, if_neg h, nI_0, Int32.sub_zero]
theorem cut_28 (k j : Nat) (x y : Int32) (S : xSt) : cutS k x (mwr S 28 j y) = mwr (cutS k x S) 28 j y := by
  unfold cutS
  rw [mwr_r S j k y (show 27 ≠ 28 by decide)]
  funext r q
  unfold mwr
  by_cases a : r = 27 ∧ q = k
  · rw [if_pos a, if_neg (fun z => by omega), if_pos a]
  · rw [if_neg a]
    by_cases b : r = 28 ∧ q = j
    · rw [if_pos b, if_pos b]
    · rw [if_neg b, if_neg b, if_neg a]
theorem isQ_iff {P w : Nat} (hP : P ≤ 10) (hw : w < 1000) : (nI 0 ≤ nI w ∧ nI w ≤ nI P - nI 1) ↔ w < P := by
  constructor
  · intro h
    obtain ⟨k, h1, h2, h3⟩ := bd_in (v := nI w) (x := nI P) (n := P) (by omega) ⟨P, Nat.le_refl _, rfl⟩ h
    have := (nI_eq (by omega) (by omega)).mp h1
    omega
  · intro h
    rw [pk_sub (by omega)]
    exact ⟨nI_le (by omega) (by omega), nI_le (by omega) (by omega)⟩
theorem itF_add (f : Nat → xSt → xSt) : ∀ (a b i : Nat) (S : xSt), itF f (a + b) i S = itF f b (i + a) (itF f a i S)
  | 0, b, i, S => by rw [Nat.zero_add]; rfl
  | a + 1, b, i, S => by
    rw [show a + 1 + b = (a + b) + 1 from by omega]
    show itF f (a + b) (i + 1) (f i S) = _
    rw [itF_add f a b (i + 1) (f i S), show i + 1 + a = i + (a + 1) from by omega]
    rfl
set_option maxHeartbeats 4000000 in
theorem x_keeps (l : Launch) {T X : xSt} (hD : RD T X) (p : Nat) (hp : p < 10) : Cy l yX0_keeps (ws_ yX0_keeps cX0_keeps 4 none) 16 [.ref 0, .int (nI p)] X (fun r X' => r = none ∧ RD (kqF p T) X' ∧ fr X X') := by
  refine Cz_start (ls := [some (.ref 0), some (.int (nI p)), none, none]) (by decide) rfl (Nat.le_of_ble_eq_true rfl) (fun _ _ _ h => h) ?_
  intro Q hQ
  obtain ⟨hl, c0, d0, c1, d1, n2, b2, n5, b5, m2, m5, y0, y1⟩ := RD_x hD.1 hD.2.1
  have hw := PV_w hD.1.2.2.2.2.1 (show p < 12 by omega)
  refine V_aload_n dX0_keeps_0 rfl ?_
  refine V_iload_n dX0_keeps_1 rfl ?_
  refine Vq_v (x_isPromiseF l hD.2.1.2 (hl 1 (by decide)) _) dX0_keeps_2 (lw_V q703 q705 qs6 q95 q706) hv_X0_isPromise (by decide) (wX_obj _) cl_X0 rfl rfl (Nat.le_of_ble_eq_true rfl) ?_
  rw [n5, bI_iff (isQ_iff (P := vN (T 5 0)) (w := p) b5 (by omega))]
  refine V_if_eqB (tgt := 18) dX0_keeps_5 (by decide) (fun c5 => ?_) (fun c5 => ?_)
  · have e0 : kqF p T = T := if_pos (by rw [m5]; exact nI_le (by omega) (by omega))
    exact V_vreturn dX0_keeps_18 rfl (hQ _ _ ⟨rfl, by rw [e0]; exact ⟨hD, fr_rf X⟩⟩)
  · refine V_aload_n dX0_keeps_8 rfl ?_
    refine V_getf (i := 8) k_X0 dX0_keeps_9 (by decide) q235 (wX_obj _) rfl ?_
    refine V_iload_n dX0_keeps_12 rfl ?_
    refine Vx_ld_states dX0_keeps_13 rfl hp ?_
    rw [hD.2.2.2.1 p c5]
    refine V_iconst dX0_keeps_14 li_1 ?_
    refine V_icmp_eq (tgt := 19) dX0_keeps_15 (by decide) (fun c15 => ?_) (fun c15 => ?_)
    · have hwP : wN T p < vN (T 2 0) := hD.2.2.2.2.1 p c5 c15
      have yp := y1.2 p c5
      have yw := y0.2 _ hwP
      have e0 : kqF p T = ktS p T := by unfold kqF; rw [if_neg (by rw [m5]; exact nI_ge c5 (by omega)), if_pos c15]
      have hc := hD.2.2.1 _ hwP
      obtain ⟨a, ha, ha2⟩ := hc.2.1
      obtain ⟨b, hb, hb2⟩ := (hD.1.2.2.2.2.2.1.1 _ hwP).2
      obtain ⟨g, hg, hg2⟩ := hD.1.2.2.2.2.2.1.2 p c5
      have hk := kt_eq a (by omega) b (by omega) g (by omega)
      rw [← ha2, ← hb2, ← hg2] at hk
      have f1 : mwr X 29 p (nI 2) 27 (wN T p) = T 27 (wN T p) := hc.1
      have f2 : mwr X 29 p (nI 2) 7 p = T 7 p := yp.2.1
      have f3 : X 4 (wN T p) = T 4 (wN T p) := yw.2
      have hfin : RD (kqF p T) (mwr (mwr X 29 p (nI 2)) 27 (wN T p) (clampI (T 27 (wN T p) + ktX (T 4 (wN T p) - T 27 (wN T p)) (T 7 p)))) ∧ fr X (mwr (mwr X 29 p (nI 2)) 27 (wN T p) (clampI (T 27 (wN T p) + ktX (T 4 (wN T p) - T 27 (wN T p)) (T 7 p)))) := by
        rw [e0]
        exact ⟨RD_27 _ (clampI_b _) (RD_29 p _ (fun z => absurd z (by decide +kernel)) hD), fr_mwr (fr_mwr (fr_rf X) (by decide) _ _) (by decide) _ _⟩
      refine V_aload_n dX0_keeps_19 rfl ?_
      refine V_getf (i := 2) k_X0 dX0_keeps_20 (by decide) q229 (wX_obj _) rfl ?_
      refine V_getfU (i := 6) k_X3 dX0_keeps_23 (by decide) q177 q178 (wX_tx1 _) rfl ?_
      refine V_iload_n dX0_keeps_26 rfl ?_
      refine V_get (q := 1) (hl 1 (by decide)) rfl (by omega) dX0_keeps_27 (lw_V q665 q666 q667 q100 q668) (Nat.le_of_ble_eq_true rfl) (by decide) ?_
      rw [eln_1]
      refine V_castE dX0_keeps_30 q711 (.inl ⟨_, _, _, _, (wX_pro _ (d := p) (by omega) (show p < std X 1 by omega)), cl_X7, rfl⟩) ?_
      refine V_astore_n dX0_keeps_33 rfl (Nat.le_of_ble_eq_true rfl) (Nat.le_of_ble_eq_true rfl) ?_
      refine V_aload_n dX0_keeps_34 rfl ?_
      refine V_getf (i := 1) k_X0 dX0_keeps_35 (by decide) q228 (wX_obj _) rfl ?_
      refine V_getfU (i := 6) k_X2 dX0_keeps_38 (by decide) q175 q176 (wX_tx0 _) rfl ?_
      refine V_aload_n dX0_keeps_41 rfl ?_
      refine V_getfN (i := 0) k_X7 dX0_keeps_42 (by decide) (nw q545 rfl) (wX_pro _ (d := p) (by omega) (show p < std X 1 by omega)) rfl ?_
      refine V_get (q := 0) (hl 0 (by decide)) (show X 6 p = nI (wN T p) from yp.1.trans hw.1) (by omega) dX0_keeps_45 (lw_V q665 q666 q667 q100 q668) (Nat.le_of_ble_eq_true rfl) (by decide) ?_
      rw [eln_0]
      refine V_castE dX0_keeps_48 q679 (.inl ⟨_, _, _, _, (wX_per _ (d := (wN T p)) (by omega) (show wN T p < std X 0 by omega)), cl_X8, rfl⟩) ?_
      refine V_getfN (i := 1) k_X8 dX0_keeps_51 (by decide) (nw q584 rfl) (wX_per _ (d := (wN T p)) (by omega) (show wN T p < std X 0 by omega)) rfl ?_
      refine V_istore_n dX0_keeps_54 rfl (Nat.le_of_ble_eq_true rfl) (Nat.le_of_ble_eq_true rfl) ?_
      refine V_aload_n dX0_keeps_55 rfl ?_
      refine V_getf (i := 8) k_X0 dX0_keeps_56 (by decide) q235 (wX_obj _) rfl ?_
      refine V_iload_n dX0_keeps_59 rfl ?_
      refine V_iconst dX0_keeps_60 li_2 ?_
      refine Vx_st_states dX0_keeps_61 (by first | rfl | assumption) (by omega) ?_
      refine V_aload_n dX0_keeps_62 rfl ?_
      refine V_getf (i := 6) k_X0 dX0_keeps_63 (by decide) q233 (wX_obj _) rfl ?_
      refine V_aload_n dX0_keeps_66 rfl ?_
      refine V_getfN (i := 0) k_X7 dX0_keeps_67 (by decide) (nw q545 rfl) (wX_pro _ (d := p) (by omega) (show p < std X 1 by omega)) rfl ?_
      refine V_aload_n dX0_keeps_70 rfl ?_
      refine V_getf (i := 6) k_X0 dX0_keeps_71 (by decide) q233 (wX_obj _) rfl ?_
      refine V_aload_n dX0_keeps_74 rfl ?_
      refine V_getfN (i := 0) k_X7 dX0_keeps_75 (by decide) (nw q545 rfl) (wX_pro _ (d := p) (by omega) (show p < std X 1 by omega)) rfl ?_
      refine Vx_ld_coats dX0_keeps_78 (show mwr X 29 p (nI 2) 6 p = nI (wN T p) from yp.1.trans hw.1) hw.2 ?_
      refine V_iload_n dX0_keeps_79 rfl ?_
      refine V_icmp_ge (tgt := 104) dX0_keeps_80 (by decide) (fun c80 => ?_) (fun c80 => ?_)
      · refine V_aload_n dX0_keeps_104 rfl ?_
        refine V_getf (i := 6) k_X0 dX0_keeps_105 (by decide) q233 (wX_obj _) rfl ?_
        refine V_aload_n dX0_keeps_108 rfl ?_
        refine V_getfN (i := 0) k_X7 dX0_keeps_109 (by decide) (nw q545 rfl) (wX_pro _ (d := p) (by omega) (show p < std X 1 by omega)) rfl ?_
        refine Vx_ld_coats dX0_keeps_112 (show mwr X 29 p (nI 2) 6 p = nI (wN T p) from yp.1.trans hw.1) hw.2 ?_
        refine V_aload_n dX0_keeps_113 rfl ?_
        refine V_getfN (i := 1) k_X7 dX0_keeps_114 (by decide) (nw q547 rfl) (wX_pro _ (d := p) (by omega) (show p < std X 1 by omega)) rfl ?_
        refine V_isub dX0_keeps_117 ?_
        refine V_iload_n dX0_keeps_118 rfl ?_
        refine V_mmax dX0_keeps_119 q816 q479 q109 q480 ⟨Nat.le_of_ble_eq_true rfl, Nat.le_of_ble_eq_true rfl⟩ (Nat.le_of_ble_eq_true rfl) ?_
        refine Vx_st_coats dX0_keeps_122 (show mwr X 29 p (nI 2) 6 p = nI (wN T p) from yp.1.trans hw.1) hw.2 ?_
        exact V_vreturn dX0_keeps_123 rfl (hQ _ _ ⟨rfl, by rw [f1, f3] at c80; rw [if_neg (Int32.not_lt.mpr c80)] at hk; rw [f1, f2, f3, hk]; exact hfin⟩)
      · refine V_aload_n dX0_keeps_83 rfl ?_
        refine V_getf (i := 6) k_X0 dX0_keeps_84 (by decide) q233 (wX_obj _) rfl ?_
        refine V_aload_n dX0_keeps_87 rfl ?_
        refine V_getfN (i := 0) k_X7 dX0_keeps_88 (by decide) (nw q545 rfl) (wX_pro _ (d := p) (by omega) (show p < std X 1 by omega)) rfl ?_
        refine Vx_ld_coats dX0_keeps_91 (show mwr X 29 p (nI 2) 6 p = nI (wN T p) from yp.1.trans hw.1) hw.2 ?_
        refine V_aload_n dX0_keeps_92 rfl ?_
        refine V_getfN (i := 1) k_X7 dX0_keeps_93 (by decide) (nw q547 rfl) (wX_pro _ (d := p) (by omega) (show p < std X 1 by omega)) rfl ?_
        refine V_iadd dX0_keeps_96 ?_
        refine V_iload_n dX0_keeps_97 rfl ?_
        refine V_mmin dX0_keeps_98 q817 q482 q109 q483 ⟨Nat.le_of_ble_eq_true rfl, Nat.le_of_ble_eq_true rfl⟩ (Nat.le_of_ble_eq_true rfl) ?_
        refine V_goto (tgt := 122) dX0_keeps_101 (by decide) ?_
        refine Vx_st_coats dX0_keeps_122 (show mwr X 29 p (nI 2) 6 p = nI (wN T p) from yp.1.trans hw.1) hw.2 ?_
        exact V_vreturn dX0_keeps_123 rfl (hQ _ _ ⟨rfl, by rw [f1, f3] at c80; rw [if_pos (Int32.not_le.mp c80)] at hk; rw [f1, f2, f3, hk]; exact hfin⟩)
    · have e0 : kqF p T = T := by unfold kqF; rw [if_neg (by rw [m5]; exact nI_ge c5 (by omega)), if_neg c15]
      exact V_vreturn dX0_keeps_18 rfl (hQ _ _ ⟨rfl, by rw [e0]; exact ⟨hD, fr_rf X⟩⟩)
set_option maxHeartbeats 4000000 in
theorem x_breaks (l : Launch) {T X : xSt} (hD0 : RD T X) (hO : vN (T 21 0) = vN (T 5 0) ∨ (vN (T 21 0) = vN (T 5 0) + 1 ∧ T 9 (vN (T 5 0)) = -1)) {d : Nat} (hd : d < 24) : Cy l yX0_breaks (ws_ yX0_breaks cX0_breaks 4 none) 16 [.ref 0, .int (nI d)] X (fun r X' => r = none ∧ RD (breaksF (nI d) T) X' ∧ fr X X') := by
  refine Cz_start (ls := [some (.ref 0), some (.int (nI d)), none, none]) (by decide) rfl (Nat.le_of_ble_eq_true rfl) (fun _ _ _ h => h) ?_
  intro Q hQ
  have L2 : ∀ (j i : Nat) (T1 X1 : xSt), i + j = vN (T 5 0) → RD T1 X1 → fr T T1 → fr X X1 → itF (brF (nI d)) j i T1 = itF (brF (nI d)) (vN (T 5 0)) 0 T → V l (yX0_breaks.cls, cX0_breaks, 4, none, [], yX0_breaks.name) (rmD 16 0 0, xF0, Q, xX0) 2 [some (.ref 0), some (.int (nI d)), some (.int (nI i)), none] [] (wX X1) 0 0 := by
    intro j
    induction j with
    | zero =>
      intro i T1 X1 hij hD hT hX hR
      obtain ⟨hl, c0, d0, c1, d1, n2, b2, n5, b5, m2, m5, y0, y1⟩ := RD_x hD.1 hD.2.1
      have t5 : T1 5 = T 5 := hT 5 (by omega)
      rw [t5] at c1 b5
      have hFIN : RD (breaksF (nI d) T) X1 := by
        unfold breaksF
        rcases hO with o | ⟨o, o9⟩
        · rw [o, ← hR]; exact hD
        · rw [o, show vN (T 5 0) + 1 = vN (T 5 0) + 1 from rfl, itF_add, ← hR, Nat.zero_add]
          show RD (brF (nI d) (vN (T 5 0)) T1) X1
          rw [show brF (nI d) (vN (T 5 0)) T1 = T1 from if_neg (by rw [hT 9 (by omega), o9]; intro z; have h := nI_pos' (n := d) (by omega); rw [← z] at h; exact absurd h (by decide +kernel))]
          exact hD
      refine V_iload_n dX0_breaks_2 rfl ?_
      refine V_aload_n dX0_breaks_3 rfl ?_
      refine V_getf (i := 2) k_X0 dX0_breaks_4 (by decide) q229 (wX_obj _) rfl ?_
      refine V_getfU (i := 6) k_X3 dX0_breaks_7 (by decide) q177 q178 (wX_tx1 _) rfl ?_
      refine V_size (q := 1) (hl 1 (by decide)) dX0_breaks_10 (lw_V q725 q365 q366 q100 q367) (Nat.le_of_ble_eq_true rfl) (by decide) ?_
      rw [c1]
      refine V_icmp_ge (tgt := 114) dX0_breaks_13 (by decide) (fun _ => ?_) (fun c13 => absurd (nI_le (by omega) (by omega)) c13)
      exact V_vreturn dX0_breaks_114 rfl (hQ _ _ ⟨rfl, ⟨hFIN, hX⟩⟩)
    | succ j ih =>
      intro i T1 X1 hij hD hT hX hR
      obtain ⟨hl, c0, d0, c1, d1, n2, b2, n5, b5, m2, m5, y0, y1⟩ := RD_x hD.1 hD.2.1
      have t5 : T1 5 = T 5 := hT 5 (by omega)
      rw [t5] at c1 d1 n5 b5
      have hw := PV_w hD.1.2.2.2.2.1 (show i < 12 by omega)
      have yi := y1.2 i (by rw [t5]; omega)
      have hs : i < std X1 1 := by omega
      have hRs : itF (brF (nI d)) j (i + 1) (brF (nI d) i T1) = itF (brF (nI d)) (vN (T 5 0)) 0 T := hR
      have hfT : fr T (brF (nI d) i T1) := fr_tr hT (brF_fr _ _ _)
      have e29 : X1 29 i = T1 29 i := hD.2.2.2.1 i (by rw [t5]; omega)
      refine V_iload_n dX0_breaks_2 rfl ?_
      refine V_aload_n dX0_breaks_3 rfl ?_
      refine V_getf (i := 2) k_X0 dX0_breaks_4 (by decide) q229 (wX_obj _) rfl ?_
      refine V_getfU (i := 6) k_X3 dX0_breaks_7 (by decide) q177 q178 (wX_tx1 _) rfl ?_
      refine V_size (q := 1) (hl 1 (by decide)) dX0_breaks_10 (lw_V q725 q365 q366 q100 q367) (Nat.le_of_ble_eq_true rfl) (by decide) ?_
      rw [c1]
      refine V_icmp_ge (tgt := 114) dX0_breaks_13 (by decide) (fun c13 => absurd c13 (nI_ge (by omega) (by omega))) (fun _ => ?_)
      refine V_aload_n dX0_breaks_16 rfl ?_
      refine V_getf (i := 2) k_X0 dX0_breaks_17 (by decide) q229 (wX_obj _) rfl ?_
      refine V_getfU (i := 6) k_X3 dX0_breaks_20 (by decide) q177 q178 (wX_tx1 _) rfl ?_
      refine V_iload_n dX0_breaks_23 rfl ?_
      refine V_get (q := 1) (hl 1 (by decide)) rfl (by omega) dX0_breaks_24 (lw_V q665 q666 q667 q100 q668) (Nat.le_of_ble_eq_true rfl) (by decide) ?_
      rw [eln_1]
      refine V_castE dX0_breaks_27 q711 (.inl ⟨_, _, _, _, (wX_pro _ (d := i) (by omega) hs), cl_X7, rfl⟩) ?_
      refine V_astore_n dX0_breaks_30 rfl (Nat.le_of_ble_eq_true rfl) (Nat.le_of_ble_eq_true rfl) ?_
      refine V_aload_n dX0_breaks_31 rfl ?_
      refine V_getfN (i := 3) k_X7 dX0_breaks_32 (by decide) (nw q551 rfl) (wX_pro _ (d := i) (by omega) hs) rfl ?_
      rw [yi.2.2.2]
      refine V_iload_n dX0_breaks_35 rfl ?_
      refine V_icmp_ne (tgt := 108) dX0_breaks_36 (by decide) (fun c36 => ?_) (fun c36 => ?_)
      · refine V_iinc dX0_breaks_108 rfl (iinc_1 _) rfl (Nat.le_of_ble_eq_true rfl) ?_
        refine V_goto (tgt := 2) dX0_breaks_111 (by decide) ?_
        have e1 : brF (nI d) i T1 = T1 := if_neg c36
        rw [e1] at hRs hfT
        refine V_forget 3 ?_
        exact ih (i + 1) T1 X1 (by omega) hD hT hX hRs
      · refine V_aload_n dX0_breaks_39 rfl ?_
        refine V_getf (i := 8) k_X0 dX0_breaks_40 (by decide) q235 (wX_obj _) rfl ?_
        refine V_iload_n dX0_breaks_43 rfl ?_
        refine Vx_ld_states dX0_breaks_44 (by first | rfl | assumption) (by omega) ?_
        rw [e29]
        refine V_iconst dX0_breaks_45 li_1 ?_
        refine V_icmp_eq (tgt := 52) dX0_breaks_46 (by decide) (fun c46 => ?_) (fun c46 => ?_)
        · have hwP : wN T1 i < vN (T1 2 0) := hD.2.2.2.2.1 i (by rw [t5]; omega) c46
          have yw := y0.2 _ hwP
          have hso : bd (X1 3 (wN T1 i)) 2 := by rw [yw.1]; exact (hD.1.2.2.2.2.2.1.1 _ hwP).1
          refine V_aload_n dX0_breaks_52 rfl ?_
          refine V_getf (i := 8) k_X0 dX0_breaks_53 (by decide) q235 (wX_obj _) rfl ?_
          refine V_iload_n dX0_breaks_56 rfl ?_
          refine V_iconst dX0_breaks_57 li_3 ?_
          refine Vx_st_states dX0_breaks_58 (by first | rfl | assumption) (by omega) ?_
          refine V_aload_n dX0_breaks_59 rfl ?_
          refine V_getf (i := 7) k_X0 dX0_breaks_60 (by decide) q234 (wX_obj _) rfl ?_
          refine V_aload_n dX0_breaks_63 rfl ?_
          refine V_getfN (i := 0) k_X7 dX0_breaks_64 (by decide) (nw q545 rfl) (wX_pro _ (d := i) (by omega) hs) rfl ?_
          refine V_dup2 dX0_breaks_67 rfl rfl ?_
          refine Vx_ld_torn dX0_breaks_68 (show X1 6 i = nI (wN T1 i) from yi.1.trans hw.1) hw.2 ?_
          refine V_iconst dX0_breaks_69 li_1 ?_
          refine V_iadd dX0_breaks_70 ?_
          refine Vx_st_torn dX0_breaks_71 (show X1 6 i = nI (wN T1 i) from yi.1.trans hw.1) hw.2 ?_
          refine V_aload_n dX0_breaks_72 rfl ?_
          refine V_aload_n dX0_breaks_73 rfl ?_
          refine V_getfN (i := 0) k_X7 dX0_breaks_74 (by decide) (nw q545 rfl) (wX_pro _ (d := i) (by omega) hs) rfl ?_
          refine V_aload_n dX0_breaks_77 rfl ?_
          refine V_getf (i := 1) k_X0 dX0_breaks_78 (by decide) q228 (wX_obj _) rfl ?_
          refine V_getfU (i := 6) k_X2 dX0_breaks_81 (by decide) q175 q176 (wX_tx0 _) rfl ?_
          refine V_aload_n dX0_breaks_84 rfl ?_
          refine V_getfN (i := 0) k_X7 dX0_breaks_85 (by decide) (nw q545 rfl) (wX_pro _ (d := i) (by omega) hs) rfl ?_
          refine V_get (q := 0) ((LQ_of (X := X1) rfl rfl (hl 0 (by decide)))) (show X1 6 i = nI (wN T1 i) from yi.1.trans hw.1) (by rw [show cnt (mwr (mwr X1 29 i (nI 3)) 28 (wN T1 i) (mwr X1 29 i (nI 3) 28 (wN T1 i) + nI 1)) 0 = cnt X1 0 from rfl]; omega) dX0_breaks_88 (lw_V q665 q666 q667 q100 q668) (Nat.le_of_ble_eq_true rfl) (by decide) ?_
          rw [eln_0]
          refine V_castE dX0_breaks_91 q679 (.inl ⟨_, _, _, _, (wX_per _ (d := (wN T1 i)) (by omega) (show wN T1 i < std X1 0 by omega)), cl_X8, rfl⟩) ?_
          refine V_getfN (i := 0) k_X8 dX0_breaks_94 (by decide) (nw q582 rfl) (wX_per _ (d := (wN T1 i)) (by omega) (show wN T1 i < std X1 0 by omega)) rfl ?_
          refine V_aload_n dX0_breaks_97 rfl ?_
          refine V_getfN (i := 1) k_X7 dX0_breaks_98 (by decide) (nw q547 rfl) (wX_pro _ (d := i) (by omega) hs) rfl ?_
          refine V_shorter (hso) (so3 _) dX0_breaks_101 q829 (Nat.le_of_ble_eq_true rfl) (by decide) ?_
          refine V_ineg dX0_breaks_104 ?_
          rw [show mwr (mwr X1 29 i (nI 3)) 28 (wN T1 i) (mwr X1 29 i (nI 3) 28 (wN T1 i) + nI 1) 6 i = nI (wN T1 i) from yi.1.trans hw.1]
          refine Vz_vV (x_cuts l (wN T1 i) hw.2 _) dX0_breaks_105 (lw_V q812 q814 qs12 q95 q815) hv_X0_cuts (by decide) (wX_obj _) cl_X0 rfl rfl (Nat.le_of_ble_eq_true rfl) (fun _ h => h.elim) (fun _ _ => xok0) (fun _ _ => xok0) ⟨Nat.le_of_eq (Nat.zero_add _), Nat.le_of_eq (Nat.zero_add _)⟩ (fun X2 h2 => ?_)
          refine V_iinc dX0_breaks_108 rfl (iinc_1 _) rfl (Nat.le_of_ble_eq_true rfl) ?_
          refine V_goto (tgt := 2) dX0_breaks_111 (by decide) ?_
          have e1 : brF (nI d) i T1 = brS i T1 := by unfold brF; rw [if_pos c36, if_pos c46]
          have e2 : X2 = mwr (cutS (wN T1 i) (brX i (mwr T1 29 i (nI 3))) (mwr X1 29 i (nI 3))) 28 (wN T1 i) (X1 28 (wN T1 i) + nI 1) := by
            rw [h2, cut_28]
            congr 2
            refine (sh_eq _ _).trans ?_
            unfold brX
            rw [show wN (mwr T1 29 i (nI 3)) i = wN T1 i from rfl]
            show (-lenI (X1 3 (wN T1 i)) (X1 7 i) - if X1 3 (wN T1 i) = nI 2 then nI 2 else nI 0) = -lenI (T1 3 (wN T1 i)) (T1 7 i) - if T1 3 (wN T1 i) = nI 2 then nI 2 else nI 0
            rw [yw.1, yi.2.1]
          have e3 : RD (brS i T1) X2 := by
            rw [e2]
            unfold brS brT
            exact RD_28 (nI 1) hwP (RD_cut _ hwP (RD_29 i (nI 3) (fun z => absurd z (by decide +kernel)) hD))
          have e4 : fr X1 X2 := by rw [e2]; exact fr_mwr (fr_cut (fr_mwr (fr_rf X1) (by decide) _ _) _ _) (by decide) _ _
          rw [e1] at hRs hfT
          refine V_forget 3 ?_
          exact ih (i + 1) (brS i T1) X2 (by omega) e3 hfT (fr_tr hX e4) hRs
        · refine V_goto (tgt := 108) dX0_breaks_49 (by decide) ?_
          refine V_iinc dX0_breaks_108 rfl (iinc_1 _) rfl (Nat.le_of_ble_eq_true rfl) ?_
          refine V_goto (tgt := 2) dX0_breaks_111 (by decide) ?_
          have e1 : brF (nI d) i T1 = T1 := by unfold brF; rw [if_pos c36, if_neg c46]
          rw [e1] at hRs hfT
          refine V_forget 3 ?_
          exact ih (i + 1) T1 X1 (by omega) hD hT hX hRs
  refine V_iconst dX0_breaks_0 li_0 ?_
  refine V_istore_n dX0_breaks_1 rfl (Nat.le_of_ble_eq_true rfl) (Nat.le_of_ble_eq_true rfl) ?_
  exact L2 _ 0 T X (Nat.zero_add _) hD0 (fr_rf T) (fr_rf X) rfl
