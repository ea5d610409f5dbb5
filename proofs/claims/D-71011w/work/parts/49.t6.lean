/-! texts: read whole, the walk -/
set_option maxRecDepth 100000
theorem partF_s (t sz : Nat) (rd : Nat → Nat → xSt → Int32 × xSt) (fin : Nat → xSt → xSt) (f n a : Nat) (S : xSt) (h : nI a < S 0 t ∨ ¬ nI a ≤ 0) : partF t sz rd fin (f + 1) n a S = partK t sz rd fin (partF t sz rd fin f) n a S := by
  unfold partF
  by_cases e : nI a < S 0 t
  · rw [if_pos e]
  · rw [if_neg e, if_neg (h.resolve_left e)]
set_option maxHeartbeats 4000000 in
theorem x_reads0 (l : Launch) {X : xSt} {T : Nat} (u1 : CB X) (u3 : X 0 0 = nI T) (u5 : T ≤ 23) (u6 : ∀ j, j < 23 → bd (X 1 (49 * 0 + j)) 255) (hL : LQ X 0) : Cz l yX1_reads (wsW_ yX1_reads cX1_reads 2 (some .int) [(12, 49, 50, 42)]) 12 44 290 (RF 0) [.ref 64] X (fun r X' => ∃ x, r = some (.int x) ∧ FQ0 X x X') := by
  refine Cz_startW (ls := [some (.ref 64), none]) (by decide) rfl (Nat.le_of_ble_eq_true rfl) (RF_lo (by decide)) ?_
  intro Q hQ
  have H50 : ∀ (Xc : xSt) (v : Int32) (p : Nat) (w' : xW) (k n : Nat), FR0 X Xc → LQ Xc 0 → w' 1536 = some (tn0 (nI p)) → (∀ m d, wX (mwr Xc 46 0 v) m = some d → w' m = some d) → nI p = (partsF0 X).1 → (partsF0 X).2 2 0 = nI 0 → V l (yX1_reads.cls, cX1_reads, 2, (some .int), [(12, 49, 50, 42)], yX1_reads.name) (rmD 12 44 290, RF 0, Q, xX0) 50 [some (.ref 64), none] [.ref 1536] w' k n := by
    intro Xc v p w' k n b1 b2 b3 b4 b5 b6
    refine V_sub (w' := upw (wX (mwr Xc 46 0 v)) 1536 (tn0 (nI p))) (fun m d hd => ?_) ?_
    · by_cases e : m = 1536
      · rw [e, upw_self] at hd; rw [e, b3]; exact hd
      · rw [upw_ne e] at hd; exact b4 m d hd
    have b7 : LQ (mwr Xc 46 0 v) 0 := LQ_of (mwr_R _ _ _ (by decide)) (mwr_R _ _ _ (by decide)) b2
    refine V_astore_n dX1_reads_50 rfl (Nat.le_of_ble_eq_true rfl) (Nat.le_of_ble_eq_true rfl) ?_
    refine V_aload_n dX1_reads_51 rfl ?_
    refine V_getf (i := 6) k_X2 dX1_reads_52 (by decide) q174 ((upw_ne (by decide)).trans (wX_tx0 _)) rfl ?_
    refine V_clearT (q := 0) (by decide) b7 dX1_reads_55 (lw_V q356 q357 q358 q100 q359) (by decide) (by decide) ?_
    refine V_aload_n dX1_reads_58 rfl ?_
    refine V_getfN (i := 6) k_X6 dX1_reads_59 (by decide) (nw q417 rfl) upw_self rfl ?_
    refine V_sub (w' := wX (cd0 (mwr Xc 46 0 v))) (fun m d hd => ?_) ?_
    · have hd2 := wX_drop (by decide) hd
      rw [upw_ne (fun z => by rw [z, wX_far _ (by decide)] at hd2; cases hd2)]
      exact hd2
    exact V_ireturn dX1_reads_62 rfl (hQ _ _ ⟨_, rfl, cd0_F (b1.tr (FR0.wr (j := 46) (.inr ⟨.inl rfl, rfl⟩))) b5 b6⟩)
  have L23 : ∀ (f n a : Nat) (Xc S : xSt), n + f = 9 → n ≤ 8 → 0 < n → TX Xc 0 23 n a T → LQ Xc 0 → AG0 n S Xc → FR0 X Xc → (if nI a = nI T then (-1, finF0 n S) else if tbF S 0 a = nI 59 then partF 0 2 rdP finF0 f n (a + 1) S else (nI a, S)) = partsF0 X → V l (yX1_reads.cls, cX1_reads, 2, (some .int), [(12, 49, 50, 42)], yX1_reads.name) (rmD 12 44 290, RF 0, Q, xX0) 23 [some (.ref 64), none] [] (wX Xc) (5 * f) (33 * f) := by
    intro f
    induction f with
    | zero => intro n a Xc S e1 e2; omega
    | succ f ih =>
      intro n a Xc S e1 e2 e0 hT hLc hA hFr hR
      obtain ⟨h1, h2, h3, h4, h5, h6, h7, h8⟩ := id hT
      refine V_aload_n dX1_reads_23 rfl ?_
      refine V_getf (i := 3) k_X2 dX1_reads_24 (by decide) q171 (wX_tx0 _) rfl ?_
      refine V_topi h2 ?_
      refine V_aload_n dX1_reads_27 rfl ?_
      refine V_getf (i := 2) k_X2 dX1_reads_28 (by decide) q170 (wX_tx0 _) rfl ?_
      refine V_topi h3 ?_
      refine V_icmp_geN (tgt := 48) dX1_reads_31 (by decide) (by omega) (by omega) (fun c31 => ?_) (fun c31 => ?_)
      · have hTa : a = T := by omega
        rw [if_pos (by rw [hTa])] at hR
        have hcn : cnt Xc 0 = n := h7
        have hFQ : FQ0 X (-1) Xc := by
          refine ⟨by rw [← hR], ?_, fun k hk => ?_, by rw [h8, h7], hLc, by omega, hFr⟩
          · rw [← hR, show (2 : Nat) = szr 0 from rfl, hLc.2.1, h7]
            show nI n = finF0 n S 2 0
            unfold finF0; rw [mwr_same, mwr_s]
          · have z := hA.2.2.2 k (by omega)
            rw [← hR]
            show Xc 3 k = finF0 n S 3 k ∧ Xc 4 k = finF0 n S 4 k
            rw [finF0_fr n S (show 3 ≠ 2 by decide), finF0_fr n S (show 4 ≠ 2 by decide)]
            exact ⟨z.1.symm, z.2.symm⟩
        refine V_iconst dX1_reads_48 li_m1 ?_
        exact V_ireturn dX1_reads_49 rfl (hQ _ _ ⟨_, rfl, hFQ⟩)
      · refine V_aload_n dX1_reads_34 rfl ?_
        refine V_ldcS (i := 0) (by decide) rfl dX1_reads_35 ?_
        have hne : ¬ nI a = nI T := fun z => by have := (nI_eq (by omega) (by omega)).mp z; omega
        rw [if_neg hne] at hR
        refine V_callU (k' := 4 + 5 * f) (n' := 26 + 33 * f) (x_passes0 l (X := Xc) (i := 0) (a := a) (T := T) (by decide) (wX_tx0 _) (wX_by0 _) (wX_q0 _) (wX_b0 _) (fr36_wX h1) h2 h3 h4 h5 h6) dX1_reads_37 (lw_U q649 q1687 q1689 q448 q96 q449) rfl hs_X1_passes (xfit_D (by decide) (by decide) (by omega) (by omega)) (.inl ⟨_, _, _, _, wX_tx0 _, cl_X2, rfl⟩) rfl (Nat.le_of_ble_eq_true rfl) (fun _ z => RF36 z) (okl_c (ok_r (fun z => by have z : F36 _ := z; unfold F36 at z; omega)) (okl_n okl_0)) oks_0 (fun r w1 g1 => ?_) (fun E q w1 g1 => ?_)
        rotate_left
        · obtain ⟨rfl, rfl, p, y1, y2, y3, y4⟩ := g1
          refine Vx_catch (tgt := 50) [] ⟨12, 49, 50, 42⟩ [] rfl (fun z hz => nomatch hz) (by decide) (by decide) q355 (nw q369 rfl) rfl ?_
          have hb : ¬ tbF Xc 0 a = nI 59 := fun z => by
            rw [show pas 0 (tbF Xc 0 a) = nI 0 from if_pos z] at y3
            exact absurd y3 (by decide +kernel)
          rw [tbF_c hA.1 hA.2.1, if_neg hb] at hR
          refine H50 Xc (Xc 46 0) p w1 _ _ hFr hLc y1 (fun m d hd => y4 m d (by rw [mwr_self] at hd; exact hd)) (by rw [← hR, y2]) (by rw [← hR]; exact hA.2.2.1)
        obtain ⟨rfl, g2, rfl⟩ := g1
        have hb : tbF Xc 0 a = nI 59 := Classical.byContradiction fun z => g2 (if_neg z)
        rw [tbF_c hA.1 hA.2.1, if_pos hb] at hR
        have ha := pas_lt (by decide) h3 h4 (by omega) g2
        have hT1 := TX46 hT (b := a + 1) (by omega)
        have hL1 : LQ (mwr Xc 46 0 (nI (a + 1))) 0 := LQ_of (mwr_R _ _ _ (by decide)) (mwr_R _ _ _ (by decide)) hLc
        have hA1 : AG0 n S (mwr Xc 46 0 (nI (a + 1))) := ⟨by rw [mwr_R _ _ _ (by decide)]; exact hA.1, by rw [mwr_R _ _ _ (by decide)]; exact hA.2.1, hA.2.2.1, fun k hk => by rw [mwr_R _ _ _ (by decide), mwr_R _ _ _ (by decide)]; exact hA.2.2.2 k hk⟩
        have hF1 : FR0 X (mwr Xc 46 0 (nI (a + 1))) := hFr.tr (FR0.wr (j := 46) (.inr ⟨.inl rfl, rfl⟩))
        rw [partF_s _ _ _ _ _ _ _ _ (.inr (fun z => absurd z (nI_nle (by omega) (by omega))))] at hR
        have hcg := rdP_c (a := a + 1) hA1.1 hA1.2.1 e2
        rw [upw46_0]
        refine V_pop dX1_reads_40 rfl ?_
        refine V_aload_n dX1_reads_41 rfl ?_
        refine V_callP (k' := 5 * f) (n' := 33 * f) (C := "PromiseTailor$Town") (x_next0 l hT1 hL1 e2) dX1_reads_42 (lw_meth q363) q96 q360 q362 q319 rfl (nw q361 rfl) hs_X1_next (xfit_D (by decide) (by decide) (by omega) (by omega)) (.inl ⟨_, _, _, _, wX_tx0 _, cl_X2, rfl⟩) rfl (Nat.le_of_ble_eq_true rfl) (fun _ z => z) (okl_c (ok_r (fun z => by have z : RF _ _ := z; unfold RF at z; omega)) (okl_n okl_0)) oks_0 (fun r w1 g1 => ?_) (fun E q w1 g1 => ?_)
        rotate_left
        · obtain ⟨rfl, rfl, p, y1, y2, y3, v, y4⟩ := g1
          refine Vx_catch (tgt := 50) [] ⟨12, 49, 50, 42⟩ [] rfl (fun z hz => nomatch hz) (by decide) (by decide) q355 (nw q369 rfl) rfl ?_
          unfold partK at hR
          rw [hcg.1, if_neg y3] at hR
          refine H50 _ v p w1 _ _ hF1 hL1 y1 y4 (by rw [← hR, y2]) (by rw [← hR, hcg.2.1 y3]; exact hA.2.2.1)
        obtain ⟨rfl, g3, rfl⟩ := g1
        obtain ⟨s1, s2, s3, s4, s5⟩ := nx0_step hT1 hL1 hA1 hF1 e2 g3
        unfold partK at hR
        rw [hcg.1, if_pos g3] at hR
        have hR2 : (if nI (a + 1 + 2) = nI T then (-1, finF0 (n + 1) (rdP n (a + 1) S).2) else if tbF (rdP n (a + 1) S).2 0 (a + 1 + 2) = nI 59 then partF 0 2 rdP finF0 f (n + 1) (a + 1 + 2 + 1) (rdP n (a + 1) S).2 else (nI (a + 1 + 2), (rdP n (a + 1) S).2)) = partsF0 X := by
          rw [show (rdP n (a + 1) S).2 0 0 = nI T from by rw [s3.1]; exact s1.2.2.1] at hR
          exact hR
        refine V_goto (tgt := 23) dX1_reads_45 (by decide) ?_
        exact ih (n + 1) (a + 1 + 2) _ _ (by omega) (by omega) (by omega) s1 s2 s3 s4 hR2
  have hX1 : LQ (mwr X 46 0 (nI 0)) 0 := LQ_of (mwr_R _ _ _ (by decide)) (mwr_R _ _ _ (by decide)) hL
  have hf0 : FR0 X (cd0 (mwr X 46 0 (nI 0))) := (FR0.wr (j := 46) (.inr ⟨.inl rfl, rfl⟩)).tr (cd0_fr _)
  obtain ⟨v1, v2, v3⟩ := cd0_s (mwr X 46 0 (nI 0))
  have hT0 : TX (cd0 (mwr X 46 0 (nI 0))) 0 23 0 0 T := by
    have e0 : cd0 (mwr X 46 0 (nI 0)) 0 = X 0 := hf0.1 0 (by decide) (by decide) (by decide) (by decide) (by decide) (by decide) (by decide)
    have e1 : cd0 (mwr X 46 0 (nI 0)) 1 = X 1 := hf0.1 1 (by decide) (by decide) (by decide) (by decide) (by decide) (by decide) (by decide)
    refine ⟨hf0.cb u1 (by omega), ?_, by rw [e0]; exact u3, by omega, u5, fun j hj => by rw [e1]; exact u6 j hj, v2, v3⟩
    exact (mwr_r _ _ _ _ (by decide)).trans ((clX_o _ (by decide) (by decide)).trans (mwr_s _ _ _ _))
  have hA0 : AG0 0 (finF0 0 X) (cd0 (mwr X 46 0 (nI 0))) := by
    refine ⟨?_, ?_, ?_, fun k hk => absurd hk (by omega)⟩
    · rw [finF0_fr _ _ (by decide)]; exact (hf0.1 0 (by decide) (by decide) (by decide) (by decide) (by decide) (by decide) (by decide)).symm
    · rw [finF0_fr _ _ (by decide)]; exact (hf0.1 1 (by decide) (by decide) (by decide) (by decide) (by decide) (by decide) (by decide)).symm
    · unfold finF0; rw [mwr_same, mwr_s]
  have hlast : T = 0 → FQ0 X (-1) (cd0 (mwr X 46 0 (nI 0))) := by
    intro z
    have hz : partsF0 X = (-1, finF0 0 X) := by
      show partF 0 2 rdP finF0 9 0 0 (finF0 0 X) = _
      unfold partF
      have e0 : finF0 0 X 0 0 = nI 0 := by rw [finF0_fr _ _ (by decide), u3, z]
      rw [if_neg (by rw [e0]; exact nI_nlt (Nat.le_refl 0) (by decide)), if_pos (by decide +kernel)]
    exact cd0_F (FR0.wr (j := 46) (.inr ⟨.inl rfl, rfl⟩)) (by rw [hz]) (by rw [hz]; exact hA0.2.2.1)
  refine V_aload_n dX1_reads_0 rfl ?_
  refine V_iconst dX1_reads_1 li_0 ?_
  refine Vt0_put_at dX1_reads_2 q171 ?_
  refine V_aload_n dX1_reads_5 rfl ?_
  refine V_getf (i := 6) k_X2 dX1_reads_6 (by decide) q174 (wX_tx0 _) rfl ?_
  refine V_clear (q := 0) hX1 dX1_reads_9 (lw_V q356 q357 q358 q100 q359) (by decide) (by decide) ?_
  refine V_sub (w' := wX (cd0 (mwr X 46 0 (nI 0)))) (fun m d hd => wX_drop (by decide) hd) ?_
  refine V_aload_n dX1_reads_12 rfl ?_
  refine V_getf (i := 2) k_X2 dX1_reads_13 (by decide) q170 (wX_tx0 _) rfl ?_
  refine V_topi hT0.2.2.1 ?_
  refine V_if_le (tgt := 23) dX1_reads_16 (by decide) (fun c16 => ?_) (fun c16 => ?_)
  · have z : T = 0 := by
      by_cases z : T = 0
      · exact z
      · exact absurd c16 (nI_nle (by omega) (by omega))
    refine V_aload_n dX1_reads_23 rfl ?_
    refine V_getf (i := 3) k_X2 dX1_reads_24 (by decide) q171 (wX_tx0 _) rfl ?_
    refine V_topi hT0.2.1 ?_
    refine V_aload_n dX1_reads_27 rfl ?_
    refine V_getf (i := 2) k_X2 dX1_reads_28 (by decide) q170 (wX_tx0 _) rfl ?_
    refine V_topi hT0.2.2.1 ?_
    refine V_icmp_ge (tgt := 48) dX1_reads_31 (by decide) (fun _ => ?_) (fun c31 => absurd (by rw [z]; exact Int32.le_refl _) c31)
    refine V_iconst dX1_reads_48 li_m1 ?_
    exact V_ireturn dX1_reads_49 rfl (hQ _ _ ⟨_, rfl, hlast z⟩)
  · have hT9 : 0 < T := by
      by_cases z : T = 0
      · exact absurd (by rw [z]; decide +kernel) c16
      · omega
    have hR : partK 0 2 rdP finF0 (partF 0 2 rdP finF0 8) 0 0 (finF0 0 X) = partsF0 X := (partF_s 0 2 rdP finF0 8 0 0 (finF0 0 X) (.inl (by rw [finF0_fr _ _ (by decide), u3]; exact nI_lt hT9 (by omega)))).symm
    have hcg := rdP_c (n := 0) (a := 0) hA0.1 hA0.2.1 (by omega)
    refine V_aload_n dX1_reads_19 rfl ?_
    refine V_callP (k' := 5 * 8) (n' := 33 * 8) (C := "PromiseTailor$Town") (x_next0 l hT0 cd0_L (by omega)) dX1_reads_20 (lw_meth q363) q96 q360 q362 q319 rfl (nw q361 rfl) hs_X1_next (xfit_D (by decide) (by decide) (by omega) (by omega)) (.inl ⟨_, _, _, _, wX_tx0 _, cl_X2, rfl⟩) rfl (Nat.le_of_ble_eq_true rfl) (fun _ z => z) (okl_c (ok_r (fun z => by have z : RF _ _ := z; unfold RF at z; omega)) (okl_n okl_0)) oks_0 (fun r w1 g1 => ?_) (fun E q w1 g1 => ?_)
    rotate_left
    · obtain ⟨rfl, rfl, p, y1, y2, y3, v, y4⟩ := g1
      refine Vx_catch (tgt := 50) [] ⟨12, 49, 50, 42⟩ [] rfl (fun z hz => nomatch hz) (by decide) (by decide) q355 (nw q369 rfl) rfl ?_
      unfold partK at hR
      rw [hcg.1, if_neg y3] at hR
      refine H50 _ v p w1 _ _ hf0 cd0_L y1 y4 (by rw [← hR, y2]) (by rw [← hR, hcg.2.1 y3]; exact hA0.2.2.1)
    obtain ⟨rfl, g3, rfl⟩ := g1
    obtain ⟨s1, s2, s3, s4, s5⟩ := nx0_step hT0 cd0_L hA0 hf0 (by omega) g3
    unfold partK at hR
    rw [hcg.1, if_pos g3] at hR
    rw [show (rdP 0 0 (finF0 0 X)).2 0 0 = nI T from by rw [s3.1]; exact s1.2.2.1] at hR
    exact L23 8 1 2 _ _ (by omega) (by omega) (by omega) (by rw [Nat.zero_add] at s1; exact s1) s2 (by rw [Nat.zero_add] at s3; exact s3) s4 (by rw [Nat.zero_add, Nat.zero_add] at hR; exact hR)
set_option maxHeartbeats 4000000 in
theorem x_reads1 (l : Launch) {X : xSt} {T : Nat} (u1 : CB X) (u3 : X 0 1 = nI T) (u5 : T ≤ 49) (u6 : ∀ j, j < 49 → bd (X 1 (49 * 1 + j)) 255) (hL : LQ X 1) : Cz l yX1_reads (wsW_ yX1_reads cX1_reads 2 (some .int) [(12, 49, 50, 42)]) 12 76 532 (RF 1) [.ref 65] X (fun r X' => ∃ x, r = some (.int x) ∧ FQ1 X x X') := by
  refine Cz_startW (ls := [some (.ref 65), none]) (by decide) rfl (Nat.le_of_ble_eq_true rfl) (RF_lo (by decide)) ?_
  intro Q hQ
  have H50 : ∀ (Xc : xSt) (v : Int32) (p : Nat) (w' : xW) (k n : Nat), FR1 X Xc → LQ Xc 1 → w' 1536 = some (tn0 (nI p)) → (∀ m d, wX (mwr Xc 46 1 v) m = some d → w' m = some d) → nI p = (partsF1 X).1 → (partsF1 X).2 5 0 = nI 0 → V l (yX1_reads.cls, cX1_reads, 2, (some .int), [(12, 49, 50, 42)], yX1_reads.name) (rmD 12 76 532, RF 1, Q, xX0) 50 [some (.ref 65), none] [.ref 1536] w' k n := by
    intro Xc v p w' k n b1 b2 b3 b4 b5 b6
    refine V_sub (w' := upw (wX (mwr Xc 46 1 v)) 1536 (tn0 (nI p))) (fun m d hd => ?_) ?_
    · by_cases e : m = 1536
      · rw [e, upw_self] at hd; rw [e, b3]; exact hd
      · rw [upw_ne e] at hd; exact b4 m d hd
    have b7 : LQ (mwr Xc 46 1 v) 1 := LQ_of (mwr_R _ _ _ (by decide)) (mwr_R _ _ _ (by decide)) b2
    refine V_astore_n dX1_reads_50 rfl (Nat.le_of_ble_eq_true rfl) (Nat.le_of_ble_eq_true rfl) ?_
    refine V_aload_n dX1_reads_51 rfl ?_
    refine V_getf (i := 6) k_X3 dX1_reads_52 (by decide) q174 ((upw_ne (by decide)).trans (wX_tx1 _)) rfl ?_
    refine V_clearT (q := 1) (by decide) b7 dX1_reads_55 (lw_V q356 q357 q358 q100 q359) (by decide) (by decide) ?_
    refine V_aload_n dX1_reads_58 rfl ?_
    refine V_getfN (i := 6) k_X6 dX1_reads_59 (by decide) (nw q417 rfl) upw_self rfl ?_
    refine V_sub (w' := wX (cd1 (mwr Xc 46 1 v))) (fun m d hd => ?_) ?_
    · have hd2 := wX_drop (by decide) hd
      rw [upw_ne (fun z => by rw [z, wX_far _ (by decide)] at hd2; cases hd2)]
      exact hd2
    exact V_ireturn dX1_reads_62 rfl (hQ _ _ ⟨_, rfl, cd1_F (b1.tr (FR1.wr (j := 46) (.inr ⟨.inl rfl, rfl⟩))) b5 b6⟩)
  have L23 : ∀ (f n a : Nat) (Xc S : xSt), n + f = 11 → n ≤ 10 → 0 < n → TX Xc 1 49 n a T → LQ Xc 1 → AG1 n S Xc → FR1 X Xc → (if nI a = nI T then (-1, finF1 n S) else if tbF S 1 a = nI 59 then partF 1 4 rdQ finF1 f n (a + 1) S else (nI a, S)) = partsF1 X → V l (yX1_reads.cls, cX1_reads, 2, (some .int), [(12, 49, 50, 42)], yX1_reads.name) (rmD 12 76 532, RF 1, Q, xX0) 23 [some (.ref 65), none] [] (wX Xc) (7 * f) (49 * f) := by
    intro f
    induction f with
    | zero => intro n a Xc S e1 e2; omega
    | succ f ih =>
      intro n a Xc S e1 e2 e0 hT hLc hA hFr hR
      obtain ⟨h1, h2, h3, h4, h5, h6, h7, h8⟩ := id hT
      refine V_aload_n dX1_reads_23 rfl ?_
      refine V_getf (i := 3) k_X3 dX1_reads_24 (by decide) q171 (wX_tx1 _) rfl ?_
      refine V_topi h2 ?_
      refine V_aload_n dX1_reads_27 rfl ?_
      refine V_getf (i := 2) k_X3 dX1_reads_28 (by decide) q170 (wX_tx1 _) rfl ?_
      refine V_topi h3 ?_
      refine V_icmp_geN (tgt := 48) dX1_reads_31 (by decide) (by omega) (by omega) (fun c31 => ?_) (fun c31 => ?_)
      · have hTa : a = T := by omega
        rw [if_pos (by rw [hTa])] at hR
        have hcn : cnt Xc 1 = n := h7
        have hFQ : FQ1 X (-1) Xc := by
          refine ⟨by rw [← hR], ?_, fun k hk => ?_, by rw [h8, h7], hLc, by omega, hFr⟩
          · rw [← hR, show (5 : Nat) = szr 1 from rfl, hLc.2.1, h7]
            show nI n = finF1 n S 5 0
            unfold finF1; rw [mwr_s]
          · have z := hA.2.2.2 k (by omega)
            rw [← hR]
            show Xc 6 k = finF1 n S 6 k ∧ Xc 7 k = finF1 n S 7 k ∧ Xc 8 k = finF1 n S 8 k ∧ Xc 9 k = finF1 n S 9 k
            rw [finF1_fr n S (show 6 ≠ 5 by decide), finF1_fr n S (show 7 ≠ 5 by decide), finF1_fr n S (show 8 ≠ 5 by decide), finF1_fr n S (show 9 ≠ 5 by decide)]
            exact ⟨z.1.symm, z.2.1.symm, z.2.2.1.symm, z.2.2.2.symm⟩
        refine V_iconst dX1_reads_48 li_m1 ?_
        exact V_ireturn dX1_reads_49 rfl (hQ _ _ ⟨_, rfl, hFQ⟩)
      · refine V_aload_n dX1_reads_34 rfl ?_
        refine V_ldcS (i := 0) (by decide) rfl dX1_reads_35 ?_
        have hne : ¬ nI a = nI T := fun z => by have := (nI_eq (by omega) (by omega)).mp z; omega
        rw [if_neg hne] at hR
        refine V_callU (k' := 6 + 7 * f) (n' := 42 + 49 * f) (x_passes1 l (X := Xc) (i := 0) (a := a) (T := T) (by decide) (wX_tx1 _) (wX_by1 _) (wX_q0 _) (wX_b0 _) (fr36_wX h1) h2 h3 h4 h5 h6) dX1_reads_37 (lw_U q649 q1687 q1688 q448 q96 q449) rfl hs_X1_passes (xfit_D (by decide) (by decide) (by omega) (by omega)) (.inl ⟨_, _, _, _, wX_tx1 _, cl_X3, rfl⟩) rfl (Nat.le_of_ble_eq_true rfl) (fun _ z => RF36 z) (okl_c (ok_r (fun z => by have z : F36 _ := z; unfold F36 at z; omega)) (okl_n okl_0)) oks_0 (fun r w1 g1 => ?_) (fun E q w1 g1 => ?_)
        rotate_left
        · obtain ⟨rfl, rfl, p, y1, y2, y3, y4⟩ := g1
          refine Vx_catch (tgt := 50) [] ⟨12, 49, 50, 42⟩ [] rfl (fun z hz => nomatch hz) (by decide) (by decide) q355 (nw q369 rfl) rfl ?_
          have hb : ¬ tbF Xc 1 a = nI 59 := fun z => by
            rw [show pas 0 (tbF Xc 1 a) = nI 0 from if_pos z] at y3
            exact absurd y3 (by decide +kernel)
          rw [tbF_c hA.1 hA.2.1, if_neg hb] at hR
          refine H50 Xc (Xc 46 1) p w1 _ _ hFr hLc y1 (fun m d hd => y4 m d (by rw [mwr_self] at hd; exact hd)) (by rw [← hR, y2]) (by rw [← hR]; exact hA.2.2.1)
        obtain ⟨rfl, g2, rfl⟩ := g1
        have hb : tbF Xc 1 a = nI 59 := Classical.byContradiction fun z => g2 (if_neg z)
        rw [tbF_c hA.1 hA.2.1, if_pos hb] at hR
        have ha := pas_lt (by decide) h3 h4 (by omega) g2
        have hT1 := TX46 hT (b := a + 1) (by omega)
        have hL1 : LQ (mwr Xc 46 1 (nI (a + 1))) 1 := LQ_of (mwr_R _ _ _ (by decide)) (mwr_R _ _ _ (by decide)) hLc
        have hA1 : AG1 n S (mwr Xc 46 1 (nI (a + 1))) := ⟨by rw [mwr_R _ _ _ (by decide)]; exact hA.1, by rw [mwr_R _ _ _ (by decide)]; exact hA.2.1, hA.2.2.1, fun k hk => by rw [mwr_R _ _ _ (by decide), mwr_R _ _ _ (by decide), mwr_R _ _ _ (by decide), mwr_R _ _ _ (by decide)]; exact hA.2.2.2 k hk⟩
        have hF1 : FR1 X (mwr Xc 46 1 (nI (a + 1))) := hFr.tr (FR1.wr (j := 46) (.inr ⟨.inl rfl, rfl⟩))
        rw [partF_s _ _ _ _ _ _ _ _ (.inr (fun z => absurd z (nI_nle (by omega) (by omega))))] at hR
        have hcg := rdQ_c (a := a + 1) hA1.1 hA1.2.1 e2
        rw [upw46_1]
        refine V_pop dX1_reads_40 rfl ?_
        refine V_aload_n dX1_reads_41 rfl ?_
        refine V_callP (k' := 7 * f) (n' := 49 * f) (C := "PromiseTailor$Book") (x_next1 l hT1 hL1 e2) dX1_reads_42 (lw_meth q363) q96 q360 q362 q318 rfl (nw q361 rfl) hs_X1_next (xfit_D (by decide) (by decide) (by omega) (by omega)) (.inl ⟨_, _, _, _, wX_tx1 _, cl_X3, rfl⟩) rfl (Nat.le_of_ble_eq_true rfl) (fun _ z => z) (okl_c (ok_r (fun z => by have z : RF _ _ := z; unfold RF at z; omega)) (okl_n okl_0)) oks_0 (fun r w1 g1 => ?_) (fun E q w1 g1 => ?_)
        rotate_left
        · obtain ⟨rfl, rfl, p, y1, y2, y3, v, y4⟩ := g1
          refine Vx_catch (tgt := 50) [] ⟨12, 49, 50, 42⟩ [] rfl (fun z hz => nomatch hz) (by decide) (by decide) q355 (nw q369 rfl) rfl ?_
          unfold partK at hR
          rw [hcg.1, if_neg y3] at hR
          refine H50 _ v p w1 _ _ hF1 hL1 y1 y4 (by rw [← hR, y2]) (by rw [← hR, hcg.2.1 y3]; exact hA.2.2.1)
        obtain ⟨rfl, g3, rfl⟩ := g1
        obtain ⟨s1, s2, s3, s4, s5⟩ := nx1_step hT1 hL1 hA1 hF1 e2 g3
        unfold partK at hR
        rw [hcg.1, if_pos g3] at hR
        have hR2 : (if nI (a + 1 + 4) = nI T then (-1, finF1 (n + 1) (rdQ n (a + 1) S).2) else if tbF (rdQ n (a + 1) S).2 1 (a + 1 + 4) = nI 59 then partF 1 4 rdQ finF1 f (n + 1) (a + 1 + 4 + 1) (rdQ n (a + 1) S).2 else (nI (a + 1 + 4), (rdQ n (a + 1) S).2)) = partsF1 X := by
          rw [show (rdQ n (a + 1) S).2 0 1 = nI T from by rw [s3.1]; exact s1.2.2.1] at hR
          exact hR
        refine V_goto (tgt := 23) dX1_reads_45 (by decide) ?_
        exact ih (n + 1) (a + 1 + 4) _ _ (by omega) (by omega) (by omega) s1 s2 s3 s4 hR2
  have hX1 : LQ (mwr X 46 1 (nI 0)) 1 := LQ_of (mwr_R _ _ _ (by decide)) (mwr_R _ _ _ (by decide)) hL
  have hf0 : FR1 X (cd1 (mwr X 46 1 (nI 0))) := (FR1.wr (j := 46) (.inr ⟨.inl rfl, rfl⟩)).tr (cd1_fr _)
  obtain ⟨v1, v2, v3⟩ := cd1_s (mwr X 46 1 (nI 0))
  have hT0 : TX (cd1 (mwr X 46 1 (nI 0))) 1 49 0 0 T := by
    have e0 : cd1 (mwr X 46 1 (nI 0)) 0 = X 0 := hf0.1 0 (by decide) (by decide) (by decide) (by decide) (by decide) (by decide) (by decide) (by decide) (by decide)
    have e1 : cd1 (mwr X 46 1 (nI 0)) 1 = X 1 := hf0.1 1 (by decide) (by decide) (by decide) (by decide) (by decide) (by decide) (by decide) (by decide) (by decide)
    refine ⟨hf0.cb u1 (by omega), ?_, by rw [e0]; exact u3, by omega, u5, fun j hj => by rw [e1]; exact u6 j hj, v2, v3⟩
    exact (mwr_r _ _ _ _ (by decide)).trans ((clX_o _ (by decide) (by decide)).trans (mwr_s _ _ _ _))
  have hA0 : AG1 0 (finF1 0 X) (cd1 (mwr X 46 1 (nI 0))) := by
    refine ⟨?_, ?_, ?_, fun k hk => absurd hk (by omega)⟩
    · rw [finF1_fr _ _ (by decide)]; exact (hf0.1 0 (by decide) (by decide) (by decide) (by decide) (by decide) (by decide) (by decide) (by decide) (by decide)).symm
    · rw [finF1_fr _ _ (by decide)]; exact (hf0.1 1 (by decide) (by decide) (by decide) (by decide) (by decide) (by decide) (by decide) (by decide) (by decide)).symm
    · unfold finF1; rw [mwr_s]
  have hlast : T = 0 → FQ1 X (-1) (cd1 (mwr X 46 1 (nI 0))) := by
    intro z
    have hz : partsF1 X = (-1, finF1 0 X) := by
      show partF 1 4 rdQ finF1 11 0 0 (finF1 0 X) = _
      unfold partF
      have e0 : finF1 0 X 0 1 = nI 0 := by rw [finF1_fr _ _ (by decide), u3, z]
      rw [if_neg (by rw [e0]; exact nI_nlt (Nat.le_refl 0) (by decide)), if_pos (by decide +kernel)]
    exact cd1_F (FR1.wr (j := 46) (.inr ⟨.inl rfl, rfl⟩)) (by rw [hz]) (by rw [hz]; exact hA0.2.2.1)
  refine V_aload_n dX1_reads_0 rfl ?_
  refine V_iconst dX1_reads_1 li_0 ?_
  refine Vt1_put_at dX1_reads_2 q171 ?_
  refine V_aload_n dX1_reads_5 rfl ?_
  refine V_getf (i := 6) k_X3 dX1_reads_6 (by decide) q174 (wX_tx1 _) rfl ?_
  refine V_clear (q := 1) hX1 dX1_reads_9 (lw_V q356 q357 q358 q100 q359) (by decide) (by decide) ?_
  refine V_sub (w' := wX (cd1 (mwr X 46 1 (nI 0)))) (fun m d hd => wX_drop (by decide) hd) ?_
  refine V_aload_n dX1_reads_12 rfl ?_
  refine V_getf (i := 2) k_X3 dX1_reads_13 (by decide) q170 (wX_tx1 _) rfl ?_
  refine V_topi hT0.2.2.1 ?_
  refine V_if_le (tgt := 23) dX1_reads_16 (by decide) (fun c16 => ?_) (fun c16 => ?_)
  · have z : T = 0 := by
      by_cases z : T = 0
      · exact z
      · exact absurd c16 (nI_nle (by omega) (by omega))
    refine V_aload_n dX1_reads_23 rfl ?_
    refine V_getf (i := 3) k_X3 dX1_reads_24 (by decide) q171 (wX_tx1 _) rfl ?_
    refine V_topi hT0.2.1 ?_
    refine V_aload_n dX1_reads_27 rfl ?_
    refine V_getf (i := 2) k_X3 dX1_reads_28 (by decide) q170 (wX_tx1 _) rfl ?_
    refine V_topi hT0.2.2.1 ?_
    refine V_icmp_ge (tgt := 48) dX1_reads_31 (by decide) (fun _ => ?_) (fun c31 => absurd (by rw [z]; exact Int32.le_refl _) c31)
    refine V_iconst dX1_reads_48 li_m1 ?_
    exact V_ireturn dX1_reads_49 rfl (hQ _ _ ⟨_, rfl, hlast z⟩)
  · have hT9 : 0 < T := by
      by_cases z : T = 0
      · exact absurd (by rw [z]; decide +kernel) c16
      · omega
    have hR : partK 1 4 rdQ finF1 (partF 1 4 rdQ finF1 10) 0 0 (finF1 0 X) = partsF1 X := (partF_s 1 4 rdQ finF1 10 0 0 (finF1 0 X) (.inl (by rw [finF1_fr _ _ (by decide), u3]; exact nI_lt hT9 (by omega)))).symm
    have hcg := rdQ_c (n := 0) (a := 0) hA0.1 hA0.2.1 (by omega)
    refine V_aload_n dX1_reads_19 rfl ?_
    refine V_callP (k' := 7 * 10) (n' := 49 * 10) (C := "PromiseTailor$Book") (x_next1 l hT0 cd1_L (by omega)) dX1_reads_20 (lw_meth q363) q96 q360 q362 q318 rfl (nw q361 rfl) hs_X1_next (xfit_D (by decide) (by decide) (by omega) (by omega)) (.inl ⟨_, _, _, _, wX_tx1 _, cl_X3, rfl⟩) rfl (Nat.le_of_ble_eq_true rfl) (fun _ z => z) (okl_c (ok_r (fun z => by have z : RF _ _ := z; unfold RF at z; omega)) (okl_n okl_0)) oks_0 (fun r w1 g1 => ?_) (fun E q w1 g1 => ?_)
    rotate_left
    · obtain ⟨rfl, rfl, p, y1, y2, y3, v, y4⟩ := g1
      refine Vx_catch (tgt := 50) [] ⟨12, 49, 50, 42⟩ [] rfl (fun z hz => nomatch hz) (by decide) (by decide) q355 (nw q369 rfl) rfl ?_
      unfold partK at hR
      rw [hcg.1, if_neg y3] at hR
      refine H50 _ v p w1 _ _ hf0 cd1_L y1 y4 (by rw [← hR, y2]) (by rw [← hR, hcg.2.1 y3]; exact hA0.2.2.1)
    obtain ⟨rfl, g3, rfl⟩ := g1
    obtain ⟨s1, s2, s3, s4, s5⟩ := nx1_step hT0 cd1_L hA0 hf0 (by omega) g3
    unfold partK at hR
    rw [hcg.1, if_pos g3] at hR
    rw [show (rdQ 0 0 (finF1 0 X)).2 0 1 = nI T from by rw [s3.1]; exact s1.2.2.1] at hR
    exact L23 10 1 4 _ _ (by omega) (by omega) (by omega) (by rw [Nat.zero_add] at s1; exact s1) s2 (by rw [Nat.zero_add] at s3; exact s3) s4 (by rw [Nat.zero_add, Nat.zero_add] at hR; exact hR)
