/-! texts: the next part -/
set_option maxRecDepth 100000
def nxY0 (n a : Nat) (X : xSt) : xSt := mwr (mwr (rdP n a X).2 46 0 (nI (a + 2))) 54 0 (nI (n + 1))
def nxY1 (n a : Nat) (X : xSt) : xSt := mwr (mwr (rdQ n a X).2 46 1 (nI (a + 4))) 54 1 (nI (n + 1))
def nxX0 (n a : Nat) (X : xSt) : xSt := addX 0 (nxY0 n a X)
def nxX1 (n a : Nat) (X : xSt) : xSt := addX 1 (nxY1 n a X)
theorem nxY0_o {n a : Nat} {X : xSt} {r : Nat} (h : r ≠ 3 ∧ r ≠ 4 ∧ r ≠ 46 ∧ r ≠ 54) : nxY0 n a X r = X r := by
  unfold nxY0
  rw [mwr_R _ _ _ h.2.2.2, mwr_R _ _ _ h.2.2.1, rdP_fr _ _ _ ⟨h.1, h.2.1⟩]
theorem nxY1_o {n a : Nat} {X : xSt} {r : Nat} (h : r ≠ 6 ∧ r ≠ 7 ∧ r ≠ 8 ∧ r ≠ 9 ∧ r ≠ 46 ∧ r ≠ 54) : nxY1 n a X r = X r := by
  unfold nxY1
  rw [mwr_R _ _ _ h.2.2.2.2.2, mwr_R _ _ _ h.2.2.2.2.1, rdQ_fr _ _ _ ⟨h.1, h.2.1, h.2.2.1, h.2.2.2.1⟩]
theorem CB_of {X Y : xSt} (h : ∀ q, Y (szr q) = X (szr q)) (hX : CB X) : CB Y := by
  have e : ∀ q, cnt Y q = cnt X q := fun q => by unfold cnt; rw [h q]
  unfold CB
  simp only [e]
  exact hX
theorem LQ_of {X Y : xSt} {q : Nat} (h : Y (szr q) = X (szr q)) (h2 : Y 50 = X 50) (hX : LQ X q) : LQ Y q := by
  have e : cnt Y q = cnt X q := by unfold cnt; rw [h]
  unfold LQ
  rw [e, h, h2]
  exact hX
theorem nxY0_s {n a : Nat} {X : xSt} (q : Nat) : nxY0 n a X (szr q) = X (szr q) := nxY0_o (by have := @szr_b q; omega)
theorem nxY1_s {n a : Nat} {X : xSt} (q : Nat) : nxY1 n a X (szr q) = X (szr q) := nxY1_o (by have := @szr_b q; omega)
theorem nxW0 {X : xSt} {n a : Nat} (hs0 : std X 0 = n) (hn : n < 64) (er : (rdP n a X).2 = mwr (mwr X 3 n (sortI (tbF X 0 a))) 4 n (pas 2 (tbF X 0 (a + 1)))) : upw (wX (mwr X 46 0 (nI (a + 2)))) (1088 + n) (.inr (4, true, [.ref (soN (sortI (tbF X 0 a))), .int (pas 2 (tbF X 0 (a + 1)))])) = wX (nxY0 n a X) := by
  have hs : std (nxY0 n a X) 0 = n + 1 := by unfold std nxY0; rw [mwr_s]; exact vN_nI (by omega)
  have h3 : nxY0 n a X 3 n = sortI (tbF X 0 a) := by unfold nxY0; rw [mwr_r _ _ _ _ (by decide), mwr_r _ _ _ _ (by decide), er, mwr_r _ _ _ _ (by decide), mwr_s]
  have h4 : nxY0 n a X 4 n = pas 2 (tbF X 0 (a + 1)) := by unfold nxY0; rw [mwr_r _ _ _ _ (by decide), mwr_r _ _ _ _ (by decide), er, mwr_s]
  refine wX_up (by rw [wX_per _ (by omega) (by rw [hs]; omega), h3, h4]) fun m hm => ?_
  unfold nxY0
  have hs2 : std (mwr (rdP n a X).2 46 0 (nI (a + 2))) 0 = n := by unfold std at *; rw [mwr_r _ _ _ _ (by decide), rdP_fr _ _ _ (by decide)]; exact hs0
  rw [wX_st0 hs2 hn hm]
  by_cases e : m = 64
  · rw [e, wX_tx0, wX_tx0]
    unfold txfs
    rw [mwr_s, mwr_s, mwr_r _ _ _ _ (by decide), mwr_r _ _ _ _ (by decide), mwr_r _ _ _ _ (by decide), mwr_r _ _ _ _ (by decide), mwr_r _ _ _ _ (by decide), mwr_r _ _ _ _ (by decide), rdP_fr _ _ _ (by decide), rdP_fr _ _ _ (by decide), rdP_fr _ _ _ (by decide)]
  · rw [wX_mwr (by rw [dep_46]; exact e), wX_mwr (by rw [dep_46]; exact e), er, wX_mwr (by rw [dep_4]; omega), wX_mwr (by rw [dep_3]; omega)]
set_option maxHeartbeats 4000000 in
theorem x_next0 (l : Launch) {X : xSt} {n a T : Nat} (h : TX X 0 23 n a T) (hL : LQ X 0) (hn : n ≤ 8) : Cn l yX1_next (ws_ yX1_next cX1_next 1 none) (rmD 10 4 26, RF 0, (fun r w' => r = none ∧ nI 2 ≤ (rdP n a X).1 ∧ w' = wX (nxX0 n a X)), xTorn (TP X 0 2 a (rdP n a X).1)) [.ref 64] (wX X) := by
  refine Cn_start (ls := [some (.ref 64)]) (by decide) rfl (Nat.le_of_ble_eq_true rfl) (RF_lo (by decide)) ?_
  obtain ⟨h1, h2, h3, h4, h5, h6, h7, h8⟩ := id h
  have hf := fr36_wX h1
  by_cases hc : n = 8
  · refine V_aload_n dX1_next_0 rfl ?_
    refine V_getf (i := 6) k_X2 dX1_next_1 (by decide) q174 (wX_tx0 _) rfl ?_
    refine V_size hL dX1_next_4 (lw_V q364 q365 q366 q100 q367) (by decide) (by decide) ?_
    refine V_aload_n dX1_next_7 rfl ?_
    refine V_getf (i := 1) k_X2 dX1_next_8 (by decide) q169 (wX_tx0 _) rfl ?_
    refine V_icmp_ne (tgt := 26) dX1_next_11 (by decide) (fun c11 => absurd (by rw [h7, hc]; rfl) c11) (fun _ => ?_)
    refine V_new (k' := 0) (n' := 0) (fs := [.null, .null, .null, .null, .null, .int 0, .int 0]) 1536 k_X6 dX1_next_14 q355 q368 q106 (by decide +kernel) hf.1 (.inr (.inr (Nat.le_refl _))) hf.2.1 (nel_c (ne_r (by decide)) nel_0) nes_0 ⟨Nat.le_of_ble_eq_true rfl, Nat.le_of_ble_eq_true rfl⟩ ?_
    refine V_dup dX1_next_17 rfl ?_
    refine V_aload_n dX1_next_18 rfl ?_
    refine V_getf (i := 3) k_X2 dX1_next_19 (by decide) q171 ((upw_ne (by decide)).trans (wX_tx0 _)) rfl ?_
    have hf2 : tmpFree (upw (wX X) 1536 (tn0 0)) := hf.2.2.up (by decide) (fun _ _ => tn0_nr)
    refine Vr_i (k' := 0) (n' := 0) (x_torn l _ upw_self (by decide) hf2) dX1_next_22 q409 q106 q407 q408 rfl hs_X6_init (by decide) rfl (Nat.le_of_ble_eq_true rfl) (fun n h => .inr (.inr (Nat.le_trans (by decide) h))) (okl_c (ok_r (by unfold tmpF; decide)) okl_0) (oks_c (ok_r (by unfold tmpF; decide)) oks_0) ⟨by decide, by decide⟩ ?_
    rw [upw_upw]
    refine V_athrow dX1_next_25 upw_self cl_X6 rfl ?_
    refine Vx_out (fun z hz => nomatch hz) ?_
    refine ⟨rfl, rfl, a, by rw [h2]; exact upw_self, ?_, ?_, X 46 0, fun m d hd => ?_⟩
    · rw [show rdP n a X = (nI 0, X) from if_pos hc, nI_add] <;> rfl
    · rw [show rdP n a X = (nI 0, X) from if_pos hc]; show ¬ nI 2 ≤ nI 0; decide +kernel
    · rw [mwr_self] at hd; rw [upw_ne (fun z => by rw [z, hf.1] at hd; cases hd)]; exact hd
  · refine V_aload_n dX1_next_0 rfl ?_
    refine V_getf (i := 6) k_X2 dX1_next_1 (by decide) q174 (wX_tx0 _) rfl ?_
    refine V_size hL dX1_next_4 (lw_V q364 q365 q366 q100 q367) (by decide) (by decide) ?_
    refine V_aload_n dX1_next_7 rfl ?_
    refine V_getf (i := 1) k_X2 dX1_next_8 (by decide) q169 (wX_tx0 _) rfl ?_
    refine V_icmp_ne (tgt := 26) dX1_next_11 (by decide) (fun _ => ?_) (fun c11 => absurd c11 (by rw [h7]; exact fun z => hc ((nI_eq (b := 8) (by omega) (by decide)).mp z)))
    refine V_aload_n dX1_next_26 rfl ?_
    refine V_getf (i := 6) k_X2 dX1_next_27 (by decide) q174 (wX_tx0 _) rfl ?_
    refine V_aload_n dX1_next_30 rfl ?_
    refine V_callA (k' := 1) (n' := 10) (x_part0 l h (by omega)) dX1_next_31 (lw_U q433 q435 q561 q562 q97 q563) (nw q434 rfl) ⟨by decide, by decide, by decide +kernel⟩ (xfit_D (Nat.le_of_ble_eq_true rfl) (Nat.le_of_ble_eq_true rfl) (Nat.le_of_ble_eq_true rfl) (Nat.le_of_ble_eq_true rfl)) (.inl ⟨_, _, _, _, wX_tx0 _, cl_X2, rfl⟩) rfl (Nat.le_of_ble_eq_true rfl) (fun _ z => z) (okl_c (ok_r (fun z => by have z : RF _ _ := z; unfold RF at z; omega)) okl_0) (oks_c (ok_r (fun z => by have z : RF _ _ := z; unfold RF at z; omega)) oks_0) (fun r w1 g1 => ?_) (fun E q w1 g1 => Vx_out (fun z hz => nomatch hz) g1)
    obtain ⟨rfl, g2, rfl⟩ := g1
    have er : (rdP n a X).2 = mwr (mwr X 3 n (sortI (tbF X 0 a))) 4 n (pas 2 (tbF X 0 (a + 1))) := by
      rcases rdP_g (a := a) X (show n < 8 by omega) with ⟨z0, e⟩ | ⟨z0, z1, e⟩ | ⟨z0, z1, e⟩
      · rw [e] at g2; exact absurd (show nI 2 ≤ nI 0 from g2) (by decide +kernel)
      · rw [e] at g2; exact absurd (show nI 2 ≤ nI 1 from g2) (by decide +kernel)
      · rw [e]
    rw [nxW0 h8 (by omega) er]
    have hcb : CB (nxY0 n a X) := CB_of nxY0_s h1
    have hl2 : LQ (nxY0 n a X) 0 := LQ_of (nxY0_s 0) (nxY0_o (by decide)) hL
    have hcn : cnt (nxY0 n a X) 0 = n := by unfold cnt at *; rw [nxY0_s 0]; exact h7
    have hsn : std (nxY0 n a X) 0 = n + 1 := by unfold std nxY0; rw [mwr_s]; exact vN_nI (by omega)
    refine V_add (k' := 0) (n' := 0) (q := 0) (v := 1088 + n) (C := RX8) hl2 (by omega) (by rw [hcn]; exact if_neg (fun z => by omega)) (.inl ⟨_, _, _, _, wX_per _ (by omega) (by omega), cl_X8, rfl⟩) (nw q1709 rfl) (by decide) (fun z0 m d hd => wX_nr hcb.2 (tgt_da hcb (by decide) z0) hd) dX1_next_34 (lw_V q590 q591 q592 q100 q593) (fun _ => .inl rfl) (fun _ => nel_c (ne_r (by decide)) nel_0) (fun _ => nes_0) (by decide) (by decide) ⟨fun _ => ⟨Nat.le_refl _, Nat.le_refl _⟩, by decide, by decide⟩ ?_
    refine V_pop dX1_next_37 rfl ?_
    exact V_vreturn dX1_next_38 rfl ⟨rfl, g2, rfl⟩
theorem nxW1 {X : xSt} {n a : Nat} (hs0 : std X 1 = n) (hn : n < 64) (er : (rdQ n a X).2 = mwr (mwr (mwr (mwr X 6 n (pas 3 (tbF X 1 a))) 7 n (nI 1 + pas 4 (tbF X 1 (a + 1)))) 8 n (pas 5 (tbF X 1 (a + 2)))) 9 n (pas 5 (tbF X 1 (a + 3)))) : upw (wX (mwr X 46 1 (nI (a + 4)))) (1152 + n) (.inr (5, true, [.int (pas 3 (tbF X 1 a)), .int (nI 1 + pas 4 (tbF X 1 (a + 1))), .int (pas 5 (tbF X 1 (a + 2))), .int (pas 5 (tbF X 1 (a + 3)))])) = wX (nxY1 n a X) := by
  have hs : std (nxY1 n a X) 1 = n + 1 := by unfold std nxY1; rw [mwr_s]; exact vN_nI (by omega)
  have h6 : nxY1 n a X 6 n = pas 3 (tbF X 1 a) := by unfold nxY1; rw [mwr_r _ _ _ _ (by decide), mwr_r _ _ _ _ (by decide), er, mwr_r _ _ _ _ (by decide), mwr_r _ _ _ _ (by decide), mwr_r _ _ _ _ (by decide), mwr_s]
  have h7 : nxY1 n a X 7 n = nI 1 + pas 4 (tbF X 1 (a + 1)) := by unfold nxY1; rw [mwr_r _ _ _ _ (by decide), mwr_r _ _ _ _ (by decide), er, mwr_r _ _ _ _ (by decide), mwr_r _ _ _ _ (by decide), mwr_s]
  have h8 : nxY1 n a X 8 n = pas 5 (tbF X 1 (a + 2)) := by unfold nxY1; rw [mwr_r _ _ _ _ (by decide), mwr_r _ _ _ _ (by decide), er, mwr_r _ _ _ _ (by decide), mwr_s]
  have h9 : nxY1 n a X 9 n = pas 5 (tbF X 1 (a + 3)) := by unfold nxY1; rw [mwr_r _ _ _ _ (by decide), mwr_r _ _ _ _ (by decide), er, mwr_s]
  refine wX_up (by rw [wX_pro _ (by omega) (by rw [hs]; omega), h6, h7, h8, h9]) fun m hm => ?_
  unfold nxY1
  have hs2 : std (mwr (rdQ n a X).2 46 1 (nI (a + 4))) 1 = n := by unfold std at *; rw [mwr_r _ _ _ _ (by decide), rdQ_fr _ _ _ (by decide)]; exact hs0
  rw [wX_st1 hs2 hn hm]
  by_cases e : m = 65
  · rw [e, wX_tx1, wX_tx1]
    unfold txfs
    rw [mwr_s, mwr_s, mwr_r _ _ _ _ (by decide), mwr_r _ _ _ _ (by decide), mwr_r _ _ _ _ (by decide), mwr_r _ _ _ _ (by decide), mwr_r _ _ _ _ (by decide), mwr_r _ _ _ _ (by decide), rdQ_fr _ _ _ (by decide), rdQ_fr _ _ _ (by decide), rdQ_fr _ _ _ (by decide)]
  · rw [wX_mwr (by rw [dep_46]; exact e), wX_mwr (by rw [dep_46]; exact e), er, wX_mwr (by rw [dep_9]; omega), wX_mwr (by rw [dep_8]; omega), wX_mwr (by rw [dep_7]; omega), wX_mwr (by rw [dep_6]; omega)]
set_option maxHeartbeats 4000000 in
theorem x_next1 (l : Launch) {X : xSt} {n a T : Nat} (h : TX X 1 49 n a T) (hL : LQ X 1) (hn : n ≤ 10) : Cn l yX1_next (ws_ yX1_next cX1_next 1 none) (rmD 10 6 42, RF 1, (fun r w' => r = none ∧ nI 4 ≤ (rdQ n a X).1 ∧ w' = wX (nxX1 n a X)), xTorn (TP X 1 4 a (rdQ n a X).1)) [.ref 65] (wX X) := by
  refine Cn_start (ls := [some (.ref 65)]) (by decide) rfl (Nat.le_of_ble_eq_true rfl) (RF_lo (by decide)) ?_
  obtain ⟨h1, h2, h3, h4, h5, h6, h7, h8⟩ := id h
  have hf := fr36_wX h1
  by_cases hc : n = 10
  · refine V_aload_n dX1_next_0 rfl ?_
    refine V_getf (i := 6) k_X3 dX1_next_1 (by decide) q174 (wX_tx1 _) rfl ?_
    refine V_size hL dX1_next_4 (lw_V q364 q365 q366 q100 q367) (by decide) (by decide) ?_
    refine V_aload_n dX1_next_7 rfl ?_
    refine V_getf (i := 1) k_X3 dX1_next_8 (by decide) q169 (wX_tx1 _) rfl ?_
    refine V_icmp_ne (tgt := 26) dX1_next_11 (by decide) (fun c11 => absurd (by rw [h7, hc]; rfl) c11) (fun _ => ?_)
    refine V_new (k' := 0) (n' := 0) (fs := [.null, .null, .null, .null, .null, .int 0, .int 0]) 1536 k_X6 dX1_next_14 q355 q368 q106 (by decide +kernel) hf.1 (.inr (.inr (Nat.le_refl _))) hf.2.1 (nel_c (ne_r (by decide)) nel_0) nes_0 ⟨Nat.le_of_ble_eq_true rfl, Nat.le_of_ble_eq_true rfl⟩ ?_
    refine V_dup dX1_next_17 rfl ?_
    refine V_aload_n dX1_next_18 rfl ?_
    refine V_getf (i := 3) k_X3 dX1_next_19 (by decide) q171 ((upw_ne (by decide)).trans (wX_tx1 _)) rfl ?_
    have hf2 : tmpFree (upw (wX X) 1536 (tn0 0)) := hf.2.2.up (by decide) (fun _ _ => tn0_nr)
    refine Vr_i (k' := 0) (n' := 0) (x_torn l _ upw_self (by decide) hf2) dX1_next_22 q409 q106 q407 q408 rfl hs_X6_init (by decide) rfl (Nat.le_of_ble_eq_true rfl) (fun n h => .inr (.inr (Nat.le_trans (by decide) h))) (okl_c (ok_r (by unfold tmpF; decide)) okl_0) (oks_c (ok_r (by unfold tmpF; decide)) oks_0) ⟨by decide, by decide⟩ ?_
    rw [upw_upw]
    refine V_athrow dX1_next_25 upw_self cl_X6 rfl ?_
    refine Vx_out (fun z hz => nomatch hz) ?_
    refine ⟨rfl, rfl, a, by rw [h2]; exact upw_self, ?_, ?_, X 46 1, fun m d hd => ?_⟩
    · rw [show rdQ n a X = (nI 0, X) from if_pos hc, nI_add] <;> rfl
    · rw [show rdQ n a X = (nI 0, X) from if_pos hc]; show ¬ nI 4 ≤ nI 0; decide +kernel
    · rw [mwr_self] at hd; rw [upw_ne (fun z => by rw [z, hf.1] at hd; cases hd)]; exact hd
  · refine V_aload_n dX1_next_0 rfl ?_
    refine V_getf (i := 6) k_X3 dX1_next_1 (by decide) q174 (wX_tx1 _) rfl ?_
    refine V_size hL dX1_next_4 (lw_V q364 q365 q366 q100 q367) (by decide) (by decide) ?_
    refine V_aload_n dX1_next_7 rfl ?_
    refine V_getf (i := 1) k_X3 dX1_next_8 (by decide) q169 (wX_tx1 _) rfl ?_
    refine V_icmp_ne (tgt := 26) dX1_next_11 (by decide) (fun _ => ?_) (fun c11 => absurd c11 (by rw [h7]; exact fun z => hc ((nI_eq (b := 10) (by omega) (by decide)).mp z)))
    refine V_aload_n dX1_next_26 rfl ?_
    refine V_getf (i := 6) k_X3 dX1_next_27 (by decide) q174 (wX_tx1 _) rfl ?_
    refine V_aload_n dX1_next_30 rfl ?_
    refine V_callA (k' := 1) (n' := 10) (x_part1 l h (by omega)) dX1_next_31 (lw_U q433 q435 q436 q437 q101 q438) (nw q434 rfl) ⟨by decide, by decide, by decide +kernel⟩ (xfit_D (Nat.le_of_ble_eq_true rfl) (Nat.le_of_ble_eq_true rfl) (Nat.le_of_ble_eq_true rfl) (Nat.le_of_ble_eq_true rfl)) (.inl ⟨_, _, _, _, wX_tx1 _, cl_X3, rfl⟩) rfl (Nat.le_of_ble_eq_true rfl) (fun _ z => z) (okl_c (ok_r (fun z => by have z : RF _ _ := z; unfold RF at z; omega)) okl_0) (oks_c (ok_r (fun z => by have z : RF _ _ := z; unfold RF at z; omega)) oks_0) (fun r w1 g1 => ?_) (fun E q w1 g1 => Vx_out (fun z hz => nomatch hz) g1)
    obtain ⟨rfl, g2, rfl⟩ := g1
    have er : (rdQ n a X).2 = mwr (mwr (mwr (mwr X 6 n (pas 3 (tbF X 1 a))) 7 n (nI 1 + pas 4 (tbF X 1 (a + 1)))) 8 n (pas 5 (tbF X 1 (a + 2)))) 9 n (pas 5 (tbF X 1 (a + 3))) := by
      rcases rdQ_g (a := a) X (show n < 10 by omega) with ⟨z0, e⟩ | ⟨z0, z1, e⟩ | ⟨z0, z1, z2, e⟩ | ⟨z0, z1, z2, z3, e⟩ | ⟨z0, z1, z2, z3, e⟩
      · rw [e] at g2; exact absurd (show nI 4 ≤ nI 0 from g2) (by decide +kernel)
      · rw [e] at g2; exact absurd (show nI 4 ≤ nI 1 from g2) (by decide +kernel)
      · rw [e] at g2; exact absurd (show nI 4 ≤ nI 2 from g2) (by decide +kernel)
      · rw [e] at g2; exact absurd (show nI 4 ≤ nI 3 from g2) (by decide +kernel)
      · rw [e]
    rw [nxW1 h8 (by omega) er]
    have hcb : CB (nxY1 n a X) := CB_of nxY1_s h1
    have hl2 : LQ (nxY1 n a X) 1 := LQ_of (nxY1_s 1) (nxY1_o (by decide)) hL
    have hcn : cnt (nxY1 n a X) 1 = n := by unfold cnt at *; rw [nxY1_s 1]; exact h7
    have hsn : std (nxY1 n a X) 1 = n + 1 := by unfold std nxY1; rw [mwr_s]; exact vN_nI (by omega)
    refine V_add (k' := 0) (n' := 0) (q := 1) (v := 1152 + n) (C := RX7) hl2 (by omega) (by rw [hcn]; exact if_neg (fun z => by omega)) (.inl ⟨_, _, _, _, wX_pro _ (by omega) (by omega), cl_X7, rfl⟩) (nw q1706 rfl) (by decide) (fun z0 m d hd => wX_nr hcb.2 (tgt_da hcb (by decide) z0) hd) dX1_next_34 (lw_V q590 q591 q592 q100 q593) (fun _ => .inl rfl) (fun _ => nel_c (ne_r (by decide)) nel_0) (fun _ => nes_0) (by decide) (by decide) ⟨fun _ => ⟨Nat.le_refl _, Nat.le_refl _⟩, by decide, by decide⟩ ?_
    refine V_pop dX1_next_37 rfl ?_
    exact V_vreturn dX1_next_38 rfl ⟨rfl, g2, rfl⟩
