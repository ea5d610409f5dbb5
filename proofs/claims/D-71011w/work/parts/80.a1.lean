/-! PromiseTailor's side: the tie between calls, taken apart; what one text says rests on its own bytes -/
set_option maxRecDepth 100000
/-- the tie, in its parts -/
def XY (G X : xSt) : Prop := BX X ∧ (∀ j, cj j → X j = G j) ∧ X 10 0 = G 10 0 ∧ (∀ i, i < cnt X 2 → X 11 i = G 11 i ∧ X 12 i = G 12 i ∧ bd (X 12 i) 9) ∧ std X 2 = cnt X 2 ∧ (X 47 0 = nI 1 → sy0 (asToldF G) X) ∧ (X 47 1 = nI 1 → sy1 (asToldF G) X) ∧ fl0 X ∧ fl1 X ∧ df X ∧ X 53 0 = nI 0 ∧ AS X
theorem XY_cn {G X : xSt} (h : X 10 0 = G 10 0) : cnt X 2 = vN (G 10 0) := by
  unfold cnt
  rw [show szr 2 = 10 from rfl, h]
theorem kd_0 {X : xSt} (h : X 53 0 = nI 0) (i : Nat) : kdX X i = X 11 i ∧ koX X i = X 12 i := by
  unfold kdX koX
  rw [if_neg (by rw [h]; decide +kernel), if_neg (by rw [h]; decide +kernel)]
  exact ⟨rfl, rfl⟩
theorem XR_XY {G X : xSt} (h : XR G X) : XY G X := by
  obtain ⟨⟨hX, hK, hd⟩, h53, hA⟩ := h
  have h10 : X 10 0 = G 10 0 := hK.2.1.symm.trans (asToldF_22 G)
  have hcn := XY_cn h10
  refine ⟨hX.1, fun j hj => (hX.2.1 j hj).trans (asToldF_r G (by unfold cj at hj; omega)), h10, fun i hi => ?_, ?_, fun z => ?_, fun z => ?_, hX.2.2.2.2.2.2.2.2.1, hX.2.2.2.2.2.2.2.2.2, hd, h53, hA⟩
  · have z := hK.1 i hi
    rw [(kd_0 h53 i).1, (kd_0 h53 i).2, (told_k G (by omega)).1, (told_k G (by omega)).2] at z
    exact ⟨z.1.symm, z.2.1.symm, z.2.2⟩
  · rcases hK.2.2.2.2.2 with z | z
    · exact z.2
    · rw [h53] at z; exact absurd z (by decide +kernel)
  · rcases hX.2.2.2.2.2.2.1 with w | w
    · exact w.2
    · rw [w.1] at z; exact absurd z (by decide +kernel)
  · rcases hX.2.2.2.2.2.2.2.1 with w | w
    · exact w.2
    · rw [w.1] at z; exact absurd z (by decide +kernel)
theorem XY_XR {G X : xSt} (hM : MI G) (h : XY G X) : XR G X := by
  obtain ⟨hB, hc, h10, hk, hs, h0, h1, hf0, hf1, hd, h53, hA⟩ := h
  have hcn := XY_cn h10
  have hK : KD (asToldF G) X := by
    refine ⟨fun i hi => ?_, (asToldF_22 G).trans h10.symm, (told_25 G).1, (told_25 G).2, told_21 G, .inl ⟨h53, hs⟩⟩
    have z := hk i hi
    rw [(kd_0 h53 i).1, (kd_0 h53 i).2, (told_k G (by omega)).1, (told_k G (by omega)).2]
    exact ⟨z.1.symm, z.2.1.symm, z.2.2⟩
  refine ⟨⟨⟨hB, fun j hj => (hc j hj).trans (asToldF_r G (by omega)).symm, XK_df hK hd, XO_df hK hd, (LI_0 hM).1, told_TB G, ?_, ?_, hf0, hf1⟩, hK, hd⟩, h53, hA⟩
  · rcases hB.2.2.2.2.2.1 with z | z
    · exact .inr ⟨z, told_pr0 G⟩
    · exact .inl ⟨z, h0 z⟩
  · rcases hB.2.2.2.2.2.2.1 with z | z
    · exact .inr ⟨z, told_pr1 G⟩
    · exact .inl ⟨z, h1 z⟩
/-- one text's own bytes -/
def TE (t : Nat) (S X : xSt) : Prop := S 0 t = X 0 t ∧ tbF S t = tbF X t
theorem TE.rf (t : Nat) (S : xSt) : TE t S S := ⟨rfl, rfl⟩
theorem TE_of {t : Nat} {S X : xSt} (h0 : S 0 = X 0) (h1 : S 1 = X 1) : TE t S X := ⟨by rw [h0], tbF_c h0 h1 t⟩

theorem rdP_w9 {n a : Nat} {S X : xSt} (ht : tbF S 0 = tbF X 0) (hn : n ≤ 8) : (rdP n a S).1 = (rdP n a X).1 ∧ (¬ nI 2 ≤ (rdP n a X).1 → (rdP n a S).2 = S) ∧ (nI 2 ≤ (rdP n a X).1 → n < 8 ∧ ¬ pas 2 (tbF X 0 (a + 1)) = -1 ∧ (rdP n a S).2 = mwr (mwr S 3 n (sortI (tbF X 0 a))) 4 n (pas 2 (tbF X 0 (a + 1))) ∧ (rdP n a X).2 = mwr (mwr X 3 n (sortI (tbF X 0 a))) 4 n (pas 2 (tbF X 0 (a + 1)))) := by
  by_cases hc : n = 8
  · rw [show rdP n a S = (nI 0, S) from if_pos hc, show rdP n a X = (nI 0, X) from if_pos hc]
    exact ⟨rfl, fun _ => rfl, fun z => absurd (show nI 2 ≤ nI 0 from z) (by decide +kernel)⟩
  have hn2 : n < 8 := by omega
  have gS := rdP_g (a := a) S hn2
  rw [ht] at gS
  rcases rdP_g (a := a) X hn2 with ⟨z0, e⟩ | ⟨z0, z1, e⟩ | ⟨z0, z1, e⟩
  · rcases gS with ⟨y0, eS⟩ | ⟨y0, y1, eS⟩ | ⟨y0, y1, eS⟩
    · rw [e, eS]; exact ⟨rfl, fun _ => rfl, fun z => absurd (show nI 2 ≤ nI 0 from z) (by decide +kernel)⟩
    · exact absurd z0 y0
    · exact absurd z0 y0
  · rcases gS with ⟨y0, eS⟩ | ⟨y0, y1, eS⟩ | ⟨y0, y1, eS⟩
    · exact absurd y0 z0
    · rw [e, eS]; exact ⟨rfl, fun _ => rfl, fun z => absurd (show nI 2 ≤ nI 1 from z) (by decide +kernel)⟩
    · exact absurd z1 y1
  · rcases gS with ⟨y0, eS⟩ | ⟨y0, y1, eS⟩ | ⟨y0, y1, eS⟩
    · exact absurd y0 z0
    · exact absurd y1 z1
    · rw [e, eS]; exact ⟨rfl, fun z => absurd (Int32.le_refl (nI 2)) z, fun _ => ⟨hn2, z1, rfl, rfl⟩⟩
theorem rdQ_w9 {n a : Nat} {S X : xSt} (ht : tbF S 1 = tbF X 1) (hn : n ≤ 10) : (rdQ n a S).1 = (rdQ n a X).1 ∧ (¬ nI 4 ≤ (rdQ n a X).1 → (rdQ n a S).2 = S) ∧ (nI 4 ≤ (rdQ n a X).1 → n < 10 ∧ ¬ pas 5 (tbF X 1 (a + 3)) = -1 ∧ (rdQ n a S).2 = mwr (mwr (mwr (mwr S 6 n (pas 3 (tbF X 1 a))) 7 n (nI 1 + pas 4 (tbF X 1 (a + 1)))) 8 n (pas 5 (tbF X 1 (a + 2)))) 9 n (pas 5 (tbF X 1 (a + 3))) ∧ (rdQ n a X).2 = mwr (mwr (mwr (mwr X 6 n (pas 3 (tbF X 1 a))) 7 n (nI 1 + pas 4 (tbF X 1 (a + 1)))) 8 n (pas 5 (tbF X 1 (a + 2)))) 9 n (pas 5 (tbF X 1 (a + 3)))) := by
  by_cases hc : n = 10
  · rw [show rdQ n a S = (nI 0, S) from if_pos hc, show rdQ n a X = (nI 0, X) from if_pos hc]
    exact ⟨rfl, fun _ => rfl, fun z => absurd (show nI 4 ≤ nI 0 from z) (by decide +kernel)⟩
  have hn2 : n < 10 := by omega
  have gS := rdQ_g (a := a) S hn2
  rw [ht] at gS
  rcases rdQ_g (a := a) X hn2 with ⟨z0, e⟩ | ⟨z0, z1, e⟩ | ⟨z0, z1, z2, e⟩ | ⟨z0, z1, z2, z3, e⟩ | ⟨z0, z1, z2, z3, e⟩
  · rcases gS with ⟨y0, eS⟩ | ⟨y0, y1, eS⟩ | ⟨y0, y1, y2, eS⟩ | ⟨y0, y1, y2, y3, eS⟩ | ⟨y0, y1, y2, y3, eS⟩
    · rw [e, eS]; exact ⟨rfl, fun _ => rfl, fun z => absurd (show nI 4 ≤ nI 0 from z) (by decide +kernel)⟩
    · exact absurd z0 y0
    · exact absurd z0 y0
    · exact absurd z0 y0
    · exact absurd z0 y0
  · rcases gS with ⟨y0, eS⟩ | ⟨y0, y1, eS⟩ | ⟨y0, y1, y2, eS⟩ | ⟨y0, y1, y2, y3, eS⟩ | ⟨y0, y1, y2, y3, eS⟩
    · exact absurd y0 z0
    · rw [e, eS]; exact ⟨rfl, fun _ => rfl, fun z => absurd (show nI 4 ≤ nI 1 from z) (by decide +kernel)⟩
    · exact absurd z1 y1
    · exact absurd z1 y1
    · exact absurd z1 y1
  · rcases gS with ⟨y0, eS⟩ | ⟨y0, y1, eS⟩ | ⟨y0, y1, y2, eS⟩ | ⟨y0, y1, y2, y3, eS⟩ | ⟨y0, y1, y2, y3, eS⟩
    · exact absurd y0 z0
    · exact absurd y1 z1
    · rw [e, eS]; exact ⟨rfl, fun _ => rfl, fun z => absurd (show nI 4 ≤ nI 2 from z) (by decide +kernel)⟩
    · exact absurd z2 y2
    · exact absurd z2 y2
  · rcases gS with ⟨y0, eS⟩ | ⟨y0, y1, eS⟩ | ⟨y0, y1, y2, eS⟩ | ⟨y0, y1, y2, y3, eS⟩ | ⟨y0, y1, y2, y3, eS⟩
    · exact absurd y0 z0
    · exact absurd y1 z1
    · exact absurd y2 z2
    · rw [e, eS]; exact ⟨rfl, fun _ => rfl, fun z => absurd (show nI 4 ≤ nI 3 from z) (by decide +kernel)⟩
    · exact absurd z3 y3
  · rcases gS with ⟨y0, eS⟩ | ⟨y0, y1, eS⟩ | ⟨y0, y1, y2, eS⟩ | ⟨y0, y1, y2, y3, eS⟩ | ⟨y0, y1, y2, y3, eS⟩
    · exact absurd y0 z0
    · exact absurd y1 z1
    · exact absurd y2 z2
    · exact absurd y3 z3
    · rw [e, eS]; exact ⟨rfl, fun z => absurd (Int32.le_refl (nI 4)) z, fun _ => ⟨hn2, z3, rfl, rfl⟩⟩
def RW0 (n : Nat) (S X : xSt) : Prop := S 0 0 = X 0 0 ∧ tbF S 0 = tbF X 0 ∧ S 2 0 = nI 0 ∧ X 2 0 = nI 0 ∧ ∀ k, k < n → S 3 k = X 3 k ∧ S 4 k = X 4 k
theorem partF_w0 : ∀ (f n a : Nat) (S X : xSt), n + f = 9 → RW0 n S X → RE0 (partF 0 2 rdP finF0 f n a S) (partF 0 2 rdP finF0 f n a X) := by
  intro f
  induction f with
  | zero =>
    intro n a S X hn h
    exact RE0_0 rfl h.2.2.1 h.2.2.2.1
  | succ f ih =>
    intro n a S X hn h
    have hK : RE0 (partK 0 2 rdP finF0 (partF 0 2 rdP finF0 f) n a S) (partK 0 2 rdP finF0 (partF 0 2 rdP finF0 f) n a X) := by
      obtain ⟨c1, c2, c3⟩ := rdP_w9 (n := n) (a := a) h.2.1 (by omega)
      have cX := rdP_w9 (n := n) (a := a) (S := X) (X := X) rfl (by omega)
      unfold partK
      rw [c1]
      by_cases hg : nI 2 ≤ (rdP n a X).1
      · rw [if_pos hg, if_pos hg]
        obtain ⟨d1, d2, d3, d4⟩ := c3 hg
        have e0 : (rdP n a S).2 0 0 = (rdP n a X).2 0 0 := by rw [rdP_fr _ _ _ (by decide), rdP_fr _ _ _ (by decide)]; exact h.1
        have e1 : tbF (rdP n a S).2 0 = tbF (rdP n a X).2 0 := (tbF_c (rdP_fr _ _ _ (by decide)) (rdP_fr _ _ _ (by decide)) 0).trans (h.2.1.trans (tbF_c (rdP_fr _ _ _ (by decide)) (rdP_fr _ _ _ (by decide)) 0).symm)
        have e2 : (rdP n a S).2 2 0 = nI 0 := by rw [rdP_fr _ _ _ (by decide)]; exact h.2.2.1
        have e3 : (rdP n a X).2 2 0 = nI 0 := by rw [rdP_fr _ _ _ (by decide)]; exact h.2.2.2.1
        have e4 : ∀ k, k < n + 1 → (rdP n a S).2 3 k = (rdP n a X).2 3 k ∧ (rdP n a S).2 4 k = (rdP n a X).2 4 k := by
          intro k hk
          rw [d3, d4]
          by_cases e : k = n
          · rw [e]
            exact ⟨by rw [mwr_r _ _ _ _ (by decide), mwr_s, mwr_r _ _ _ _ (by decide), mwr_s], by rw [mwr_s, mwr_s]⟩
          · have hk2 := h.2.2.2.2 k (by omega)
            exact ⟨by rw [mwr_r _ _ _ _ (by decide), mwr_q _ _ _ _ e, mwr_r _ _ _ _ (by decide), mwr_q _ _ _ _ e]; exact hk2.1, by rw [mwr_q _ _ _ _ e, mwr_r _ _ _ _ (by decide), mwr_q _ _ _ _ e, mwr_r _ _ _ _ (by decide)]; exact hk2.2⟩
        rw [e0, e1]
        by_cases hq : nI (a + 2) = (rdP n a X).2 0 0
        · rw [if_pos hq, if_pos hq]
          have f1 : ∀ S, finF0 (n + 1) S 2 0 = nI (n + 1) := fun S => by unfold finF0; rw [mwr_same, mwr_s]
          refine ⟨rfl, (f1 (rdP n a S).2).trans (f1 (rdP n a X).2).symm, fun k hk => ?_⟩
          rw [show (((-1 : Int32), finF0 (n + 1) (rdP n a X).2) : Int32 × xSt).2 2 0 = nI (n + 1) from f1 (rdP n a X).2, vN_nI (by omega)] at hk
          show finF0 (n + 1) (rdP n a S).2 3 k = finF0 (n + 1) (rdP n a X).2 3 k ∧ finF0 (n + 1) (rdP n a S).2 4 k = finF0 (n + 1) (rdP n a X).2 4 k
          rw [finF0_fr _ _ (show 3 ≠ 2 by decide), finF0_fr _ _ (show 3 ≠ 2 by decide), finF0_fr _ _ (show 4 ≠ 2 by decide), finF0_fr _ _ (show 4 ≠ 2 by decide)]
          exact e4 k hk
        · rw [if_neg hq, if_neg hq]
          by_cases hb : tbF (rdP n a X).2 0 (a + 2) = nI 59
          · rw [if_pos hb, if_pos hb]
            exact ih (n + 1) _ _ _ (by omega) ⟨e0, e1, e2, e3, e4⟩
          · rw [if_neg hb, if_neg hb]
            exact RE0_0 rfl e2 e3
      · rw [if_neg hg, if_neg hg]
        exact RE0_0 rfl (by rw [c2 hg]; exact h.2.2.1) (by rw [cX.2.1 hg]; exact h.2.2.2.1)
    unfold partF
    rw [h.1]
    by_cases g : nI a < X 0 0
    · rw [if_pos g, if_pos g]; exact hK
    · rw [if_neg g, if_neg g]
      by_cases g2 : nI a ≤ 0
      · rw [if_pos g2, if_pos g2]; exact RE0_0 rfl h.2.2.1 h.2.2.2.1
      · rw [if_neg g2, if_neg g2]; exact hK
theorem partsF0_w {S X : xSt} (h : TE 0 S X) : RE0 (partsF0 S) (partsF0 X) := by
  have f1 : ∀ S, finF0 0 S 2 0 = nI 0 := fun S => by unfold finF0; rw [mwr_same, mwr_s]
  exact partF_w0 9 0 0 _ _ (by decide) ⟨by rw [finF0_fr _ _ (by decide), finF0_fr _ _ (by decide)]; exact h.1, (tbF_c (finF0_fr _ _ (by decide)) (finF0_fr _ _ (by decide)) 0).trans (h.2.trans (tbF_c (finF0_fr _ _ (by decide)) (finF0_fr _ _ (by decide)) 0).symm), f1 _, f1 _, fun k hk => absurd hk (by omega)⟩
def RW1 (n : Nat) (S X : xSt) : Prop := S 0 1 = X 0 1 ∧ tbF S 1 = tbF X 1 ∧ S 5 0 = nI 0 ∧ X 5 0 = nI 0 ∧ ∀ k, k < n → S 6 k = X 6 k ∧ S 7 k = X 7 k ∧ S 8 k = X 8 k ∧ S 9 k = X 9 k
theorem partF_w1 : ∀ (f n a : Nat) (S X : xSt), n + f = 11 → RW1 n S X → RE1 (partF 1 4 rdQ finF1 f n a S) (partF 1 4 rdQ finF1 f n a X) := by
  intro f
  induction f with
  | zero =>
    intro n a S X hn h
    exact RE1_0 rfl h.2.2.1 h.2.2.2.1
  | succ f ih =>
    intro n a S X hn h
    have hK : RE1 (partK 1 4 rdQ finF1 (partF 1 4 rdQ finF1 f) n a S) (partK 1 4 rdQ finF1 (partF 1 4 rdQ finF1 f) n a X) := by
      obtain ⟨c1, c2, c3⟩ := rdQ_w9 (n := n) (a := a) h.2.1 (by omega)
      have cX := rdQ_w9 (n := n) (a := a) (S := X) (X := X) rfl (by omega)
      unfold partK
      rw [c1]
      by_cases hg : nI 4 ≤ (rdQ n a X).1
      · rw [if_pos hg, if_pos hg]
        obtain ⟨d1, d2, d3, d4⟩ := c3 hg
        have e0 : (rdQ n a S).2 0 1 = (rdQ n a X).2 0 1 := by rw [rdQ_fr _ _ _ (by decide), rdQ_fr _ _ _ (by decide)]; exact h.1
        have e1 : tbF (rdQ n a S).2 1 = tbF (rdQ n a X).2 1 := (tbF_c (rdQ_fr _ _ _ (by decide)) (rdQ_fr _ _ _ (by decide)) 1).trans (h.2.1.trans (tbF_c (rdQ_fr _ _ _ (by decide)) (rdQ_fr _ _ _ (by decide)) 1).symm)
        have e2 : (rdQ n a S).2 5 0 = nI 0 := by rw [rdQ_fr _ _ _ (by decide)]; exact h.2.2.1
        have e3 : (rdQ n a X).2 5 0 = nI 0 := by rw [rdQ_fr _ _ _ (by decide)]; exact h.2.2.2.1
        have e4 : ∀ k, k < n + 1 → (rdQ n a S).2 6 k = (rdQ n a X).2 6 k ∧ (rdQ n a S).2 7 k = (rdQ n a X).2 7 k ∧ (rdQ n a S).2 8 k = (rdQ n a X).2 8 k ∧ (rdQ n a S).2 9 k = (rdQ n a X).2 9 k := by
          intro k hk
          rw [d3, d4]
          by_cases e : k = n
          · rw [e]
            exact ⟨by rw [mwr_r _ _ _ _ (by decide), mwr_r _ _ _ _ (by decide), mwr_r _ _ _ _ (by decide), mwr_s, mwr_r _ _ _ _ (by decide), mwr_r _ _ _ _ (by decide), mwr_r _ _ _ _ (by decide), mwr_s], by rw [mwr_r _ _ _ _ (by decide), mwr_r _ _ _ _ (by decide), mwr_s, mwr_r _ _ _ _ (by decide), mwr_r _ _ _ _ (by decide), mwr_s], by rw [mwr_r _ _ _ _ (by decide), mwr_s, mwr_r _ _ _ _ (by decide), mwr_s], by rw [mwr_s, mwr_s]⟩
          · have hk2 := h.2.2.2.2 k (by omega)
            exact ⟨by rw [mwr_r _ _ _ _ (by decide), mwr_r _ _ _ _ (by decide), mwr_r _ _ _ _ (by decide), mwr_q _ _ _ _ e, mwr_r _ _ _ _ (by decide), mwr_r _ _ _ _ (by decide), mwr_r _ _ _ _ (by decide), mwr_q _ _ _ _ e]; exact hk2.1, by rw [mwr_r _ _ _ _ (by decide), mwr_r _ _ _ _ (by decide), mwr_q _ _ _ _ e, mwr_r _ _ _ _ (by decide), mwr_r _ _ _ _ (by decide), mwr_r _ _ _ _ (by decide), mwr_q _ _ _ _ e, mwr_r _ _ _ _ (by decide)]; exact hk2.2.1, by rw [mwr_r _ _ _ _ (by decide), mwr_q _ _ _ _ e, mwr_r _ _ _ _ (by decide), mwr_r _ _ _ _ (by decide), mwr_r _ _ _ _ (by decide), mwr_q _ _ _ _ e, mwr_r _ _ _ _ (by decide), mwr_r _ _ _ _ (by decide)]; exact hk2.2.2.1, by rw [mwr_q _ _ _ _ e, mwr_r _ _ _ _ (by decide), mwr_r _ _ _ _ (by decide), mwr_r _ _ _ _ (by decide), mwr_q _ _ _ _ e, mwr_r _ _ _ _ (by decide), mwr_r _ _ _ _ (by decide), mwr_r _ _ _ _ (by decide)]; exact hk2.2.2.2⟩
        rw [e0, e1]
        by_cases hq : nI (a + 4) = (rdQ n a X).2 0 1
        · rw [if_pos hq, if_pos hq]
          have f1 : ∀ S, finF1 (n + 1) S 5 0 = nI (n + 1) := fun S => by unfold finF1; rw [mwr_s]
          refine ⟨rfl, (f1 (rdQ n a S).2).trans (f1 (rdQ n a X).2).symm, fun k hk => ?_⟩
          rw [show (((-1 : Int32), finF1 (n + 1) (rdQ n a X).2) : Int32 × xSt).2 5 0 = nI (n + 1) from f1 (rdQ n a X).2, vN_nI (by omega)] at hk
          show finF1 (n + 1) (rdQ n a S).2 6 k = finF1 (n + 1) (rdQ n a X).2 6 k ∧ finF1 (n + 1) (rdQ n a S).2 7 k = finF1 (n + 1) (rdQ n a X).2 7 k ∧ finF1 (n + 1) (rdQ n a S).2 8 k = finF1 (n + 1) (rdQ n a X).2 8 k ∧ finF1 (n + 1) (rdQ n a S).2 9 k = finF1 (n + 1) (rdQ n a X).2 9 k
          rw [finF1_fr _ _ (show 6 ≠ 5 by decide), finF1_fr _ _ (show 6 ≠ 5 by decide), finF1_fr _ _ (show 7 ≠ 5 by decide), finF1_fr _ _ (show 7 ≠ 5 by decide), finF1_fr _ _ (show 8 ≠ 5 by decide), finF1_fr _ _ (show 8 ≠ 5 by decide), finF1_fr _ _ (show 9 ≠ 5 by decide), finF1_fr _ _ (show 9 ≠ 5 by decide)]
          exact e4 k hk
        · rw [if_neg hq, if_neg hq]
          by_cases hb : tbF (rdQ n a X).2 1 (a + 4) = nI 59
          · rw [if_pos hb, if_pos hb]
            exact ih (n + 1) _ _ _ (by omega) ⟨e0, e1, e2, e3, e4⟩
          · rw [if_neg hb, if_neg hb]
            exact RE1_0 rfl e2 e3
      · rw [if_neg hg, if_neg hg]
        exact RE1_0 rfl (by rw [c2 hg]; exact h.2.2.1) (by rw [cX.2.1 hg]; exact h.2.2.2.1)
    unfold partF
    rw [h.1]
    by_cases g : nI a < X 0 1
    · rw [if_pos g, if_pos g]; exact hK
    · rw [if_neg g, if_neg g]
      by_cases g2 : nI a ≤ 0
      · rw [if_pos g2, if_pos g2]; exact RE1_0 rfl h.2.2.1 h.2.2.2.1
      · rw [if_neg g2, if_neg g2]; exact hK
theorem partsF1_w {S X : xSt} (h : TE 1 S X) : RE1 (partsF1 S) (partsF1 X) := by
  have f1 : ∀ S, finF1 0 S 5 0 = nI 0 := fun S => by unfold finF1; rw [mwr_s]
  exact partF_w1 11 0 0 _ _ (by decide) ⟨by rw [finF1_fr _ _ (by decide), finF1_fr _ _ (by decide)]; exact h.1, (tbF_c (finF1_fr _ _ (by decide)) (finF1_fr _ _ (by decide)) 1).trans (h.2.trans (tbF_c (finF1_fr _ _ (by decide)) (finF1_fr _ _ (by decide)) 1).symm), f1 _, f1 _, fun k hk => absurd hk (by omega)⟩
theorem TE_p0 {G H : xSt} (h : TE 1 H G) : TE 1 (partsF0 H).2 (partsF0 G).2 := ⟨by rw [(p0_c H).1, (p0_c G).1]; exact h.1, (tbF_c (p0_c H).1 (p0_c H).2 1).trans (h.2.trans (tbF_c (p0_c G).1 (p0_c G).2 1).symm)⟩
/-- a text whose bytes stay: what was read of it stays told -/
theorem sy0_k {G H X Y : xSt} (h : TE 0 H G) (hr : ∀ r, (r = 2 ∨ r = 3 ∨ r = 4) → Y r = X r) (hs : sy0 (asToldF G) X) : sy0 (asToldF H) Y := by
  obtain ⟨-, e2, e3⟩ := partsF0_w h
  refine ⟨by rw [hr 2 (by omega), told_0 H 2 (by omega), e2, ← told_0 G 2 (by omega)]; exact hs.1, fun k hk => ?_⟩
  rw [told_0 H 2 (by omega), e2] at hk
  have z := e3 k hk
  rw [hr 3 (by omega), hr 4 (by omega), told_0 H 3 (by omega), told_0 H 4 (by omega), z.1, z.2, ← told_0 G 3 (by omega), ← told_0 G 4 (by omega)]
  exact hs.2 k (by rw [told_0 G 2 (by omega)]; exact hk)
theorem sy1_k {G H X Y : xSt} (h : TE 1 H G) (hr : ∀ r, (4 < r ∧ r < 10) → Y r = X r) (hs : sy1 (asToldF G) X) : sy1 (asToldF H) Y := by
  obtain ⟨-, e2, e3⟩ := partsF1_w (TE_p0 h)
  refine ⟨by rw [hr 5 (by omega), told_1 H 5 (by omega), e2, ← told_1 G 5 (by omega)]; exact hs.1, fun k hk => ?_⟩
  rw [told_1 H 5 (by omega), e2] at hk
  have z := e3 k hk
  rw [hr 6 (by omega), hr 7 (by omega), hr 8 (by omega), hr 9 (by omega), told_1 H 6 (by omega), told_1 H 7 (by omega), told_1 H 8 (by omega), told_1 H 9 (by omega), z.1, z.2.1, z.2.2.1, z.2.2.2, ← told_1 G 6 (by omega), ← told_1 G 7 (by omega), ← told_1 G 8 (by omega), ← told_1 G 9 (by omega)]
  exact hs.2 k (by rw [told_1 G 5 (by omega)]; exact hk)
theorem fl0_k {X Y : xSt} (h : TE 0 Y X) (h2 : Y 47 0 = X 47 0) (h3 : Y 48 0 = X 48 0) (hf : fl0 X) : fl0 Y := fun z => by
  rw [h3, (partsF0_w h).1]
  exact hf (by rw [← h2]; exact z)
theorem fl1_k {X Y : xSt} (h : TE 1 Y X) (h2 : Y 47 1 = X 47 1) (h3 : Y 48 1 = X 48 1) (hf : fl1 X) : fl1 Y := fun z => by
  rw [h3, (partsF1_w h).1]
  exact hf (by rw [← h2]; exact z)

