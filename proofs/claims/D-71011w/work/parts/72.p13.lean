/-! PromiseTailor's side: the tie between calls -/
set_option maxRecDepth 100000
theorem told_0 (G : xSt) : ∀ r, (r = 2 ∨ r = 3 ∨ r = 4) → asToldF G r = (partsF0 G).2 r := fun r hr => (asToldF_p G (by omega)).trans (partsF1_fr (partsF0 G).2 (by omega))
theorem told_1 (G : xSt) : ∀ r, (4 < r ∧ r < 10) → asToldF G r = (partsF1 (partsF0 G).2).2 r := fun r hr => asToldF_p G (by omega)
theorem told_c (G : xSt) : asToldF G 0 = G 0 ∧ asToldF G 1 = G 1 := ⟨asToldF_r G (.inl (by decide)), asToldF_r G (.inl (by decide))⟩
theorem p0_c (G : xSt) : (partsF0 G).2 0 = G 0 ∧ (partsF0 G).2 1 = G 1 := ⟨partsF0_fr G (by decide), partsF0_fr G (by decide)⟩
theorem told_pr0 (G : xSt) : pr0 (asToldF G) := by
  obtain ⟨e1, e2, e3⟩ := partsF0_e (told_c G).1 (told_c G).2
  refine ⟨by rw [e2, told_0 G 2 (by omega)], fun k hk => ?_⟩
  rw [told_0 G 2 (by omega)] at hk
  rw [told_0 G 3 (by omega), told_0 G 4 (by omega)]
  exact e3 k hk
theorem told_pr1 (G : xSt) : pr1 (asToldF G) := by
  obtain ⟨e1, e2, e3⟩ := partsF1_e ((told_c G).1.trans (p0_c G).1.symm) ((told_c G).2.trans (p0_c G).2.symm)
  refine ⟨by rw [e2, told_1 G 5 (by omega)], fun k hk => ?_⟩
  rw [told_1 G 5 (by omega)] at hk
  rw [told_1 G 6 (by omega), told_1 G 7 (by omega), told_1 G 8 (by omega), told_1 G 9 (by omega)]
  exact e3 k hk
theorem told_AP {G H : xSt} (h : ∀ j, cj j → H j = G j) : AP (asToldF G) (asToldF H) := by
  have h0 := h 0 (by unfold cj; omega)
  have h1 := h 1 (by unfold cj; omega)
  obtain ⟨-, a2, a3⟩ := partsF0_e h0 h1
  obtain ⟨-, b2, b3⟩ := partsF1_e (S := (partsF0 H).2) (X := (partsF0 G).2) ((p0_c H).1.trans (h0.trans (p0_c G).1.symm)) ((p0_c H).2.trans (h1.trans (p0_c G).2.symm))
  refine ⟨fun j hj => ?_, ?_, ?_, fun k hk => ?_, fun k hk => ?_⟩
  · rw [asToldF_r H (by unfold cj at hj; omega), asToldF_r G (by unfold cj at hj; omega)]; exact h j hj
  · rw [told_0 H 2 (by omega), told_0 G 2 (by omega)]; exact a2
  · rw [told_1 H 5 (by omega), told_1 G 5 (by omega)]; exact b2
  · rw [told_0 G 2 (by omega)] at hk
    rw [told_0 H 3 (by omega), told_0 G 3 (by omega), told_0 H 4 (by omega), told_0 G 4 (by omega)]
    exact a3 k hk
  · rw [told_1 G 5 (by omega)] at hk
    rw [told_1 H 6 (by omega), told_1 G 6 (by omega), told_1 H 7 (by omega), told_1 G 7 (by omega), told_1 H 8 (by omega), told_1 G 8 (by omega), told_1 H 9 (by omega), told_1 G 9 (by omega)]
    exact b3 k hk
theorem at_i : ∀ j i S k, k < i + j → (k < i → S 23 k = S 11 k ∧ S 24 k = S 12 k) → itF atF j i S 23 k = S 11 k ∧ itF atF j i S 24 k = S 12 k
  | 0, _, _, _, h, g => g (by omega)
  | j + 1, i, S, k, h, g => by
    have e : ∀ r, r ≠ 23 ∧ r ≠ 24 → atF i S r = S r := fun r hr => atF_r i S hr
    have z := at_i j (i + 1) (atF i S) k (by omega) (fun hk => by
      rw [e 11 (by decide), e 12 (by decide)]
      unfold atF
      by_cases q : k = i
      · rw [q, mwr_r _ _ _ _ (show 23 ≠ 24 by decide), mwr_s, mwr_s]; exact ⟨rfl, rfl⟩
      · rw [mwr_r _ _ _ _ (show 23 ≠ 24 by decide), mwr_q _ _ _ _ q, mwr_q _ _ _ _ q, mwr_r _ _ _ _ (show 24 ≠ 23 by decide)]
        exact g (by omega))
    rw [e 11 (by decide), e 12 (by decide)] at z
    exact z
theorem told_k (G : xSt) {k : Nat} (hk : k < vN (G 10 0)) : asToldF G 23 k = G 11 k ∧ asToldF G 24 k = G 12 k := by
  unfold asToldF at1F
  have r10 : at0F G 10 = G 10 := by unfold at0F; rw [mwr_R _ _ _ (by decide), mwr_R _ _ _ (by decide), readsF_fr G (by decide)]
  have r11 : at0F G 11 = G 11 := by unfold at0F; rw [mwr_R _ _ _ (by decide), mwr_R _ _ _ (by decide), readsF_fr G (by decide)]
  have r12 : at0F G 12 = G 12 := by unfold at0F; rw [mwr_R _ _ _ (by decide), mwr_R _ _ _ (by decide), readsF_fr G (by decide)]
  rw [mwr_R _ _ _ (show 23 ≠ 26 by decide), mwr_R _ _ _ (show 23 ≠ 25 by decide), mwr_R _ _ _ (show 24 ≠ 26 by decide), mwr_R _ _ _ (show 24 ≠ 25 by decide), r10]
  have z := at_i (vN (G 10 0)) 0 (at0F G) k (by omega) (fun h => absurd h (by omega))
  rw [r11, r12] at z
  exact z
theorem told_25 (G : xSt) : asToldF G 25 0 = nI 0 ∧ asToldF G 26 0 = nI 0 := ⟨(mwr_r _ _ _ _ (by decide)).trans (mwr_s _ _ _ _), mwr_s _ _ _ _⟩
theorem told_21 (G : xSt) : asToldF G 21 0 = asToldF G 5 0 := by rw [asToldF_21, asToldF_p G (by decide)]
/-! what a reading gives is bounded -/
theorem sub_bd {b : Int32} {lo hi : Nat} (h : nI lo ≤ b ∧ b ≤ nI hi) (hl : lo < 1000) (hh : hi < 1000) : bd (b - nI lo) (hi - lo) := by
  obtain ⟨m, hm, rfl⟩ := bd_I (x := b) (n := hi) (by omega) ⟨Int32.le_trans (nI_le (Nat.zero_le lo) (by omega)) h.1, h.2⟩
  exact ⟨m - lo, by omega, pk_sub ((nI_leI (by omega) (by omega)).mp h.1)⟩
theorem sort_bd {b : Int32} (h : ¬ sortI b = -1) : bd (sortI b) 2 := by
  unfold sortI at *
  by_cases c1 : b = nI 109
  · rw [if_pos c1]; exact bd_n (by decide)
  · rw [if_neg c1] at h ⊢
    by_cases c2 : b = nI 115
    · rw [if_pos c2]; exact bd_n (by decide)
    · rw [if_neg c2] at h ⊢
      by_cases c3 : b = nI 97
      · rw [if_pos c3]; exact bd_n (by decide)
      · rw [if_neg c3] at h; exact absurd rfl h
theorem n20 : ¬ nI 2 ≤ nI 0 := by decide +kernel
theorem n21 : ¬ nI 2 ≤ nI 1 := by decide +kernel
theorem n40 : ¬ nI 4 ≤ nI 0 ∧ ¬ nI 4 ≤ nI 1 ∧ ¬ nI 4 ≤ nI 2 ∧ ¬ nI 4 ≤ nI 3 := by decide +kernel
def BK0 (n : Nat) (S : xSt) : Prop := ∀ k, k < n → bd (S 3 k) 2 ∧ bd (S 4 k) 9
def BK1 (n : Nat) (S : xSt) : Prop := ∀ k, k < n → bd (S 7 k) 9
def TB0 (S : xSt) : Prop := ∀ k, k < vN (S 2 0) → bd (S 3 k) 2 ∧ bd (S 4 k) 9
def TB1 (S : xSt) : Prop := ∀ k, k < vN (S 5 0) → bd (S 7 k) 9
theorem rdP_k {n a : Nat} {S : xSt} (h : nI 2 ≤ (rdP n a S).1) (hb : BK0 n S) : BK0 (n + 1) (rdP n a S).2 := by
  unfold rdP at *
  generalize tbF S 0 a = p at *
  generalize tbF S 0 (a + 1) = q at *
  unfold rdPG at *
  by_cases c1 : n = 8
  · rw [if_pos c1] at h; exact absurd h n20
  · rw [if_neg c1] at h ⊢
    by_cases c2 : sortI p = -1
    · rw [if_pos c2] at h; exact absurd h n20
    · rw [if_neg c2] at h ⊢
      by_cases c3 : nI 48 ≤ q ∧ q ≤ nI 57
      · rw [if_pos c3]
        intro k hk
        show bd (mwr (mwr S 3 n (sortI p)) 4 n (q - nI 48) 3 k) 2 ∧ bd (mwr (mwr S 3 n (sortI p)) 4 n (q - nI 48) 4 k) 9
        by_cases e : k = n
        · rw [e, mwr_r _ _ _ _ (show 3 ≠ 4 by decide), mwr_s, mwr_s]
          exact ⟨sort_bd c2, sub_bd c3 (by decide) (by decide)⟩
        · rw [mwr_r _ _ _ _ (show 3 ≠ 4 by decide), mwr_q _ _ _ _ e, mwr_q _ _ _ _ e, mwr_r _ _ _ _ (show 4 ≠ 3 by decide)]
          exact hb k (by omega)
      · rw [if_neg c3] at h; exact absurd h n21
theorem rdQ_k {n a : Nat} {S : xSt} (h : nI 4 ≤ (rdQ n a S).1) (hb : BK1 n S) : BK1 (n + 1) (rdQ n a S).2 := by
  unfold rdQ at *
  generalize tbF S 1 a = w at *
  generalize tbF S 1 (a + 1) = g at *
  generalize tbF S 1 (a + 2) = m at *
  generalize tbF S 1 (a + 3) = d at *
  unfold rdQG at *
  by_cases c1 : n = 10
  · rw [if_pos c1] at h; exact absurd h n40.1
  · rw [if_neg c1] at h ⊢
    by_cases c2 : nI 97 ≤ w ∧ w ≤ nI 104
    · rw [if_pos c2] at h ⊢
      by_cases c3 : nI 49 ≤ g ∧ g ≤ nI 57
      · rw [if_pos c3] at h ⊢
        by_cases c4 : nI 97 ≤ m ∧ m ≤ nI 120
        · rw [if_pos c4] at h ⊢
          by_cases c5 : nI 97 ≤ d ∧ d ≤ nI 120
          · rw [if_pos c5]
            intro k hk
            show bd (mwr (mwr (mwr (mwr S 6 n (w - nI 97)) 7 n (g - nI 48)) 8 n (m - nI 97)) 9 n (d - nI 97) 7 k) 9
            rw [mwr_r _ _ _ _ (show 7 ≠ 9 by decide), mwr_r _ _ _ _ (show 7 ≠ 8 by decide)]
            by_cases e : k = n
            · rw [e, mwr_s]
              exact sub_bd (lo := 48) (hi := 57) ⟨Int32.le_trans (nI_le (by decide) (by decide)) c3.1, c3.2⟩ (by decide) (by decide)
            · rw [mwr_q _ _ _ _ e, mwr_r _ _ _ _ (show 7 ≠ 6 by decide)]
              exact hb k (by omega)
          · rw [if_neg c5] at h; exact absurd h n40.2.2.2
        · rw [if_neg c4] at h; exact absurd h n40.2.2.1
      · rw [if_neg c3] at h; exact absurd h n40.2.1
    · rw [if_neg c2] at h; exact absurd h n40.1
theorem partF_b0 : ∀ (f n a : Nat) (S : xSt), n + f = 9 → BK0 n S → S 2 0 = nI 0 → TB0 (partF 0 2 rdP finF0 f n a S).2 := by
  have Z : ∀ S : xSt, S 2 0 = nI 0 → TB0 S := fun S h k hk => absurd hk (by rw [h, vN_nI (by decide)]; omega)
  intro f
  induction f with
  | zero =>
    intro n a S hn hb h2
    exact Z S h2
  | succ f ih =>
    intro n a S hn hb h2
    have h2' : (rdP n a S).2 2 0 = nI 0 := by rw [rdP_fr _ _ _ (by decide)]; exact h2
    have hK : TB0 (partK 0 2 rdP finF0 (partF 0 2 rdP finF0 f) n a S).2 := by
      unfold partK
      by_cases hg : nI 2 ≤ (rdP n a S).1
      · rw [if_pos hg]
        have hb2 : BK0 (n + 1) (rdP n a S).2 := rdP_k hg hb
        by_cases hq : nI (a + 2) = (rdP n a S).2 0 0
        · rw [if_pos hq]
          have f1 : finF0 (n + 1) (rdP n a S).2 2 0 = nI (n + 1) := by unfold finF0; rw [mwr_same, mwr_s]
          intro k hk
          rw [show (((-1 : Int32), finF0 (n + 1) (rdP n a S).2) : Int32 × xSt).2 2 0 = nI (n + 1) from f1, vN_nI (by omega)] at hk
          show bd (finF0 (n + 1) (rdP n a S).2 3 k) 2 ∧ bd (finF0 (n + 1) (rdP n a S).2 4 k) 9
          rw [finF0_fr _ _ (show 3 ≠ 2 by decide), finF0_fr _ _ (show 4 ≠ 2 by decide)]
          exact hb2 k hk
        · rw [if_neg hq]
          by_cases hx : tbF (rdP n a S).2 0 (a + 2) = nI 59
          · rw [if_pos hx]
            exact ih (n + 1) _ _ (by omega) hb2 h2'
          · rw [if_neg hx]
            exact Z _ h2'
      · rw [if_neg hg]
        exact Z _ h2'
    unfold partF
    by_cases g : nI a < S 0 0
    · rw [if_pos g]; exact hK
    · rw [if_neg g]
      by_cases g2 : nI a ≤ 0
      · rw [if_pos g2]; exact Z S h2
      · rw [if_neg g2]; exact hK
theorem partF_b1 : ∀ (f n a : Nat) (S : xSt), n + f = 11 → BK1 n S → S 5 0 = nI 0 → TB1 (partF 1 4 rdQ finF1 f n a S).2 := by
  have Z : ∀ S : xSt, S 5 0 = nI 0 → TB1 S := fun S h k hk => absurd hk (by rw [h, vN_nI (by decide)]; omega)
  intro f
  induction f with
  | zero =>
    intro n a S hn hb h2
    exact Z S h2
  | succ f ih =>
    intro n a S hn hb h2
    have h2' : (rdQ n a S).2 5 0 = nI 0 := by rw [rdQ_fr _ _ _ (by decide)]; exact h2
    have hK : TB1 (partK 1 4 rdQ finF1 (partF 1 4 rdQ finF1 f) n a S).2 := by
      unfold partK
      by_cases hg : nI 4 ≤ (rdQ n a S).1
      · rw [if_pos hg]
        have hb2 : BK1 (n + 1) (rdQ n a S).2 := rdQ_k hg hb
        by_cases hq : nI (a + 4) = (rdQ n a S).2 0 1
        · rw [if_pos hq]
          have f1 : finF1 (n + 1) (rdQ n a S).2 5 0 = nI (n + 1) := by unfold finF1; rw [mwr_s]
          intro k hk
          rw [show (((-1 : Int32), finF1 (n + 1) (rdQ n a S).2) : Int32 × xSt).2 5 0 = nI (n + 1) from f1, vN_nI (by omega)] at hk
          show bd (finF1 (n + 1) (rdQ n a S).2 7 k) 9
          rw [finF1_fr _ _ (show 7 ≠ 5 by decide)]
          exact hb2 k hk
        · rw [if_neg hq]
          by_cases hx : tbF (rdQ n a S).2 1 (a + 4) = nI 59
          · rw [if_pos hx]
            exact ih (n + 1) _ _ (by omega) hb2 h2'
          · rw [if_neg hx]
            exact Z _ h2'
      · rw [if_neg hg]
        exact Z _ h2'
    unfold partF
    by_cases g : nI a < S 0 1
    · rw [if_pos g]; exact hK
    · rw [if_neg g]
      by_cases g2 : nI a ≤ 0
      · rw [if_pos g2]; exact Z S h2
      · rw [if_neg g2]; exact hK
theorem told_TB (G : xSt) : TB (asToldF G) := by
  have f0 : finF0 0 G 2 0 = nI 0 := by unfold finF0; rw [mwr_same, mwr_s]
  have f1 : finF1 0 (partsF0 G).2 5 0 = nI 0 := by unfold finF1; rw [mwr_s]
  have b0 : TB0 (partsF0 G).2 := partF_b0 9 0 0 _ (by decide) (fun k hk => absurd hk (by omega)) f0
  have b1 : TB1 (partsF1 (partsF0 G).2).2 := partF_b1 11 0 0 _ (by decide) (fun k hk => absurd hk (by omega)) f1
  refine ⟨fun k hk => ?_, fun p hp => ?_⟩
  · rw [told_0 G 2 (by omega)] at hk
    rw [told_0 G 3 (by omega), told_0 G 4 (by omega)]
    exact b0 k hk
  · rw [told_1 G 5 (by omega)] at hp
    rw [told_1 G 7 (by omega)]
    exact b1 p hp

