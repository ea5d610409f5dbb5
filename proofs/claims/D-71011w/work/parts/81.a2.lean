/-! PromiseTailor's side: how the tie goes on when the core changes -/
set_option maxRecDepth 100000

theorem BX_q2 {X Y : xSt} (hB : BX X) (h1 : ∀ r, (r < 10 ∨ r = 47 ∨ ((r = 10 ∨ r = 13 ∨ r = 17 ∨ r = 34) ∧ r ≠ 10)) → Y r = X r) (h50 : ∀ p, p ≠ 2 → Y 50 p = X 50 p) (h54 : ∀ p, p ≠ 2 → Y 54 p = X 54 p) (hb : bd (Y 10 0) 8) (hL : LQ Y 2) (hs : std Y 2 = cnt Y 2) : BX Y := by
  obtain ⟨a1, a2, a3, a4, a5, a6, a7, a8, b0, b1, b2, b3, b4, b5⟩ := hB
  have hsz : ∀ p, p < 6 → p ≠ 2 → Y (szr p) = X (szr p) := fun p hp g => by
    match p, hp, g with
    | 0, _, _ => exact h1 _ (by decide)
    | 1, _, _ => exact h1 _ (by decide)
    | 2, _, g => exact absurd rfl g
    | 3, _, _ => exact h1 _ (by decide)
    | 4, _, _ => exact h1 _ (by decide)
    | 5, _, _ => exact h1 _ (by decide)
    | p + 6, hp, _ => exact absurd hp (by omega)
  have hcn : ∀ p, p < 6 → p ≠ 2 → cnt Y p = cnt X p := fun p hp g => by unfold cnt; rw [hsz p hp g]
  have hcq : cnt Y 2 ≤ 8 := by
    have := (bd_v hb (by decide)).2
    exact this
  refine ⟨⟨fun p hp => ?_, ?_⟩, fun p hp => ?_, by rw [h1 0 (by decide)]; exact a3, by rw [h1 0 (by decide)]; exact a4, fun i hi => by rw [h1 1 (by decide)]; exact a5 i hi, by rw [h1 47 (by decide)]; exact a6, by rw [h1 47 (by decide)]; exact a7, fun p hp g => ?_, by rw [h1 2 (by decide)]; exact b0, by rw [h1 5 (by decide)]; exact b1, hb, by rw [h1 13 (by decide)]; exact b3, by rw [h1 17 (by decide)]; exact b4, by rw [h1 34 (by decide)]; exact b5⟩
  · by_cases g : p = 2
    · rw [g]; omega
    · rw [hcn p hp g]; exact a1.1 p hp
  · exact hcq
  · by_cases e : p = 2
    · rw [e]; exact hL
    · exact LQ_ofp (hsz p hp e) (h50 p e) (a2 p hp)
  · by_cases e : p = 2
    · rw [e]; exact hs
    · have z := a8 p hp g
      unfold std at *
      rw [h54 p e, hcn p hp e]
      exact z
theorem BX_q3 {X Y : xSt} (hB : BX X) (h1 : ∀ r, (r < 10 ∨ r = 47 ∨ ((r = 10 ∨ r = 13 ∨ r = 17 ∨ r = 34) ∧ r ≠ 13)) → Y r = X r) (h50 : ∀ p, p ≠ 3 → Y 50 p = X 50 p) (h54 : ∀ p, p ≠ 3 → Y 54 p = X 54 p) (hb : bd (Y 13 0) 6) (hL : LQ Y 3) (hs : std Y 3 = cnt Y 3) : BX Y := by
  obtain ⟨a1, a2, a3, a4, a5, a6, a7, a8, b0, b1, b2, b3, b4, b5⟩ := hB
  have hsz : ∀ p, p < 6 → p ≠ 3 → Y (szr p) = X (szr p) := fun p hp g => by
    match p, hp, g with
    | 0, _, _ => exact h1 _ (by decide)
    | 1, _, _ => exact h1 _ (by decide)
    | 2, _, _ => exact h1 _ (by decide)
    | 3, _, g => exact absurd rfl g
    | 4, _, _ => exact h1 _ (by decide)
    | 5, _, _ => exact h1 _ (by decide)
    | p + 6, hp, _ => exact absurd hp (by omega)
  have hcn : ∀ p, p < 6 → p ≠ 3 → cnt Y p = cnt X p := fun p hp g => by unfold cnt; rw [hsz p hp g]
  have hcq : cnt Y 3 ≤ 6 := by
    have := (bd_v hb (by decide)).2
    exact this
  refine ⟨⟨fun p hp => ?_, ?_⟩, fun p hp => ?_, by rw [h1 0 (by decide)]; exact a3, by rw [h1 0 (by decide)]; exact a4, fun i hi => by rw [h1 1 (by decide)]; exact a5 i hi, by rw [h1 47 (by decide)]; exact a6, by rw [h1 47 (by decide)]; exact a7, fun p hp g => ?_, by rw [h1 2 (by decide)]; exact b0, by rw [h1 5 (by decide)]; exact b1, by rw [h1 10 (by decide)]; exact b2, hb, by rw [h1 17 (by decide)]; exact b4, by rw [h1 34 (by decide)]; exact b5⟩
  · by_cases g : p = 3
    · rw [g]; omega
    · rw [hcn p hp g]; exact a1.1 p hp
  · rw [hcn 2 (by decide) (by decide)]; exact a1.2
  · by_cases e : p = 3
    · rw [e]; exact hL
    · exact LQ_ofp (hsz p hp e) (h50 p e) (a2 p hp)
  · by_cases e : p = 3
    · rw [e]; exact hs
    · have z := a8 p hp g
      unfold std at *
      rw [h54 p e, hcn p hp e]
      exact z
theorem BX_q4 {X Y : xSt} (hB : BX X) (h1 : ∀ r, (r < 10 ∨ r = 47 ∨ ((r = 10 ∨ r = 13 ∨ r = 17 ∨ r = 34) ∧ r ≠ 17)) → Y r = X r) (h50 : ∀ p, p ≠ 4 → Y 50 p = X 50 p) (h54 : ∀ p, p ≠ 4 → Y 54 p = X 54 p) (hb : bd (Y 17 0) 6) (hL : LQ Y 4) (hs : std Y 4 = cnt Y 4) : BX Y := by
  obtain ⟨a1, a2, a3, a4, a5, a6, a7, a8, b0, b1, b2, b3, b4, b5⟩ := hB
  have hsz : ∀ p, p < 6 → p ≠ 4 → Y (szr p) = X (szr p) := fun p hp g => by
    match p, hp, g with
    | 0, _, _ => exact h1 _ (by decide)
    | 1, _, _ => exact h1 _ (by decide)
    | 2, _, _ => exact h1 _ (by decide)
    | 3, _, _ => exact h1 _ (by decide)
    | 4, _, g => exact absurd rfl g
    | 5, _, _ => exact h1 _ (by decide)
    | p + 6, hp, _ => exact absurd hp (by omega)
  have hcn : ∀ p, p < 6 → p ≠ 4 → cnt Y p = cnt X p := fun p hp g => by unfold cnt; rw [hsz p hp g]
  have hcq : cnt Y 4 ≤ 6 := by
    have := (bd_v hb (by decide)).2
    exact this
  refine ⟨⟨fun p hp => ?_, ?_⟩, fun p hp => ?_, by rw [h1 0 (by decide)]; exact a3, by rw [h1 0 (by decide)]; exact a4, fun i hi => by rw [h1 1 (by decide)]; exact a5 i hi, by rw [h1 47 (by decide)]; exact a6, by rw [h1 47 (by decide)]; exact a7, fun p hp g => ?_, by rw [h1 2 (by decide)]; exact b0, by rw [h1 5 (by decide)]; exact b1, by rw [h1 10 (by decide)]; exact b2, by rw [h1 13 (by decide)]; exact b3, hb, by rw [h1 34 (by decide)]; exact b5⟩
  · by_cases g : p = 4
    · rw [g]; omega
    · rw [hcn p hp g]; exact a1.1 p hp
  · rw [hcn 2 (by decide) (by decide)]; exact a1.2
  · by_cases e : p = 4
    · rw [e]; exact hL
    · exact LQ_ofp (hsz p hp e) (h50 p e) (a2 p hp)
  · by_cases e : p = 4
    · rw [e]; exact hs
    · have z := a8 p hp g
      unfold std at *
      rw [h54 p e, hcn p hp e]
      exact z
theorem BX_q5 {X Y : xSt} (hB : BX X) (h1 : ∀ r, (r < 10 ∨ r = 47 ∨ ((r = 10 ∨ r = 13 ∨ r = 17 ∨ r = 34) ∧ r ≠ 34)) → Y r = X r) (h50 : ∀ p, p ≠ 5 → Y 50 p = X 50 p) (h54 : ∀ p, p ≠ 5 → Y 54 p = X 54 p) (hb : bd (Y 34 0) 8) (hL : LQ Y 5) (hs : std Y 5 = cnt Y 5) : BX Y := by
  obtain ⟨a1, a2, a3, a4, a5, a6, a7, a8, b0, b1, b2, b3, b4, b5⟩ := hB
  have hsz : ∀ p, p < 6 → p ≠ 5 → Y (szr p) = X (szr p) := fun p hp g => by
    match p, hp, g with
    | 0, _, _ => exact h1 _ (by decide)
    | 1, _, _ => exact h1 _ (by decide)
    | 2, _, _ => exact h1 _ (by decide)
    | 3, _, _ => exact h1 _ (by decide)
    | 4, _, _ => exact h1 _ (by decide)
    | 5, _, g => exact absurd rfl g
    | p + 6, hp, _ => exact absurd hp (by omega)
  have hcn : ∀ p, p < 6 → p ≠ 5 → cnt Y p = cnt X p := fun p hp g => by unfold cnt; rw [hsz p hp g]
  have hcq : cnt Y 5 ≤ 8 := by
    have := (bd_v hb (by decide)).2
    exact this
  refine ⟨⟨fun p hp => ?_, ?_⟩, fun p hp => ?_, by rw [h1 0 (by decide)]; exact a3, by rw [h1 0 (by decide)]; exact a4, fun i hi => by rw [h1 1 (by decide)]; exact a5 i hi, by rw [h1 47 (by decide)]; exact a6, by rw [h1 47 (by decide)]; exact a7, fun p hp g => ?_, by rw [h1 2 (by decide)]; exact b0, by rw [h1 5 (by decide)]; exact b1, by rw [h1 10 (by decide)]; exact b2, by rw [h1 13 (by decide)]; exact b3, by rw [h1 17 (by decide)]; exact b4, hb⟩
  · by_cases g : p = 5
    · rw [g]; omega
    · rw [hcn p hp g]; exact a1.1 p hp
  · rw [hcn 2 (by decide) (by decide)]; exact a1.2
  · by_cases e : p = 5
    · rw [e]; exact hL
    · exact LQ_ofp (hsz p hp e) (h50 p e) (a2 p hp)
  · by_cases e : p = 5
    · rw [e]; exact hs
    · have z := a8 p hp g
      unfold std at *
      rw [h54 p e, hcn p hp e]
      exact z
/-- the texts stay -/
theorem XY_nt {G H X Y : xSt} (h : XY G X) (hB : BX Y) (hc : ∀ j, cj j → Y j = H j) (h10 : Y 10 0 = H 10 0) (hk : ∀ i, i < cnt Y 2 → Y 11 i = H 11 i ∧ Y 12 i = H 12 i ∧ bd (Y 12 i) 9) (hs : std Y 2 = cnt Y 2) (hr : ∀ r, (r < 10 ∨ r = 25 ∨ r = 26 ∨ r = 45 ∨ r = 47 ∨ r = 48 ∨ r = 52 ∨ r = 53) → Y r = X r) (hg : H 0 = G 0 ∧ H 1 = G 1) : XY H Y := by
  obtain ⟨-, hc0, -, -, -, s0, s1, f0, f1, hd, h53, hA⟩ := h
  refine ⟨hB, hc, h10, hk, hs, fun z => ?_, fun z => ?_, fl0_c (hr 0 (by decide)) (hr 1 (by decide)) (by rw [hr 47 (by decide)]) (by rw [hr 48 (by decide)]) f0, fl1_c (hr 0 (by decide)) (hr 1 (by decide)) (by rw [hr 47 (by decide)]) (by rw [hr 48 (by decide)]) f1, ?_, by rw [hr 53 (by decide)]; exact h53, ?_⟩
  · exact sy0_k (TE_of hg.1 hg.2) (fun r g => hr r (by omega)) (s0 (by rw [hr 47 (by decide)] at z; exact z))
  · exact sy1_k (TE_of hg.1 hg.2) (fun r g => hr r (by omega)) (s1 (by rw [hr 47 (by decide)] at z; exact z))
  · unfold df
    rw [hr 45 (by decide), hr 25 (by decide), hr 26 (by decide)]
    exact hd
  · unfold AS
    rw [hr 52 (by decide)]
    exact hA
/-- numbers that neither lists nor texts rest on: latest, sheets -/
theorem XY_wr {G X : xSt} {j i : Nat} {v : Int32} (h : XY G X) (hj : (38 < j ∧ j < 43) ∨ j = 44) : XY (mwr G j i v) (mwr X j i v) := by
  have hX : ∀ r, r ≠ j → mwr X j i v r = X r := fun r g => mwr_R _ _ _ g
  have hG : ∀ r, r ≠ j → mwr G j i v r = G r := fun r g => mwr_R _ _ _ g
  have hcn : cnt (mwr X j i v) 2 = cnt X 2 := by unfold cnt; rw [hX _ (by have := @szr_b 2; omega)]
  have hsn : std (mwr X j i v) 2 = std X 2 := by unfold std; rw [hX _ (by omega)]
  refine XY_nt h (BX_q2 h.1 (fun r g => hX r (by omega)) (fun p _ => by rw [hX 50 (by omega)]) (fun p _ => by rw [hX 54 (by omega)]) (by rw [hX 10 (by omega)]; exact h.1.2.2.2.2.2.2.2.2.2.2.1) (LQ_ofp (hX _ (by have := @szr_b 2; omega)) (by rw [hX 50 (by omega)]) (h.1.2.1 2 (by decide))) (by rw [hcn, hsn]; exact h.2.2.2.2.1)) (fun r g => ?_) (by rw [hX 10 (by omega), hG 10 (by omega)]; exact h.2.2.1) (fun k hk => ?_) (by rw [hcn, hsn]; exact h.2.2.2.2.1) (fun r g => hX r (by omega)) ⟨hG 0 (by omega), hG 1 (by omega)⟩
  · by_cases e : r = j
    · rw [e]
      have z : X j = G j := h.2.1 j (by unfold cj; omega)
      funext q
      unfold mwr
      rw [z]
    · rw [hX r e, hG r e]; exact h.2.1 r g
  · rw [hX 11 (by omega), hX 12 (by omega), hG 11 (by omega), hG 12 (by omega)]
    exact h.2.2.2.1 k (by rw [hcn] at hk; exact hk)

/-- text 0 changes -/
theorem XY_tx0 {G X : xSt} (h : XY G X) {k : Nat} {v b : Int32} (hk : k < 49) (hb : bd b 255) (hv : bd v 23) : XY (mwr (mwr G 1 (49 * 0 + k) b) 0 0 v) (mwr (mwr (mwr X 1 (49 * 0 + k) b) 0 0 v) 47 0 (nI 0)) := by
  obtain ⟨hB, hc, h10, hke, hs, s0, s1, f0, f1, hd, h53, hA⟩ := id h
  generalize hX' : mwr (mwr (mwr X 1 (49 * 0 + k) b) 0 0 v) 47 0 (nI 0) = Y
  generalize hG' : mwr (mwr G 1 (49 * 0 + k) b) 0 0 v = H
  have rX : ∀ r, r ≠ 0 → r ≠ 1 → r ≠ 47 → Y r = X r := fun r a b c => by rw [← hX', mwr_R _ _ _ c, mwr_R _ _ _ a, mwr_R _ _ _ b]
  have rG : ∀ r, r ≠ 0 → r ≠ 1 → H r = G r := fun r a b => by rw [← hG', mwr_R _ _ _ a, mwr_R _ _ _ b]
  have x0 : X 0 = G 0 := hc 0 (by unfold cj; omega)
  have x1 : X 1 = G 1 := hc 1 (by unfold cj; omega)
  have y0 : Y 0 = H 0 := by
    rw [← hX', ← hG', mwr_R _ _ _ (show 0 ≠ 47 by decide)]
    funext q
    unfold mwr
    rw [x0]
  have y1 : Y 1 = H 1 := by
    rw [← hX', ← hG', mwr_R _ _ _ (show 1 ≠ 47 by decide), mwr_R _ _ _ (show 1 ≠ 0 by decide), mwr_R _ _ _ (show 1 ≠ 0 by decide)]
    funext q
    unfold mwr
    rw [x1]
  have z0 : ∀ S S' : xSt, S' = mwr (mwr S 1 (49 * 0 + k) b) 0 0 v → bd (S 0 1) 49 → TE 1 S' S := by
    intro S S' e hbu
    have e0 : S' 0 1 = S 0 1 := by rw [e, mwr_q _ _ _ _ (by decide), mwr_r _ _ _ _ (by decide)]
    refine ⟨e0, ?_⟩
    funext a
    unfold tbF
    rw [e0]
    by_cases g : S 0 1 ≤ nI a
    · rw [if_pos g, if_pos g]
    · rw [if_neg g, if_neg g, e, mwr_r _ _ _ _ (show 1 ≠ 0 by decide)]
      refine mwr_q _ _ _ _ (fun ea => g ?_)
      obtain ⟨m, hm, em⟩ := hbu
      rw [em]
      exact nI_le (by omega) (by omega)
  have xb0 : bd (X 0 1) 49 := hB.2.2.2.1
  have y0t : Y 0 0 = v := by rw [← hX', mwr_r _ _ _ _ (by decide), mwr_s]
  have y0u : Y 0 1 = X 0 1 := by rw [← hX', mwr_r _ _ _ _ (by decide), mwr_q _ _ _ _ (by decide), mwr_r _ _ _ _ (by decide)]
  have y47t : Y 47 0 = nI 0 := by rw [← hX', mwr_s]
  have y47u : Y 47 1 = X 47 1 := by rw [← hX', mwr_q _ _ _ _ (by decide), mwr_r _ _ _ _ (by decide), mwr_r _ _ _ _ (by decide)]
  have tG : TE 1 H G := z0 G H hG'.symm (by rw [← x0]; exact xb0)
  have tX : TE 1 Y X := by
    have z := z0 X _ rfl xb0
    refine ⟨y0u, ?_⟩
    rw [← z.2]
    exact tbF_c (by rw [← hX', mwr_R _ _ _ (show 0 ≠ 47 by decide)]) (by rw [← hX', mwr_R _ _ _ (show 1 ≠ 47 by decide)]) 1
  have cn : ∀ q, cnt Y q = cnt X q := fun q => by unfold cnt; rw [rX _ (by have := @szr_b q; omega) (by have := @szr_b q; omega) (by have := @szr_b q; omega)]
  have sn : ∀ q, std Y q = std X q := fun q => by unfold std; rw [rX 54 (by decide) (by decide) (by decide)]
  have hBY : BX Y := by
    obtain ⟨a1, a2, a3, a4, a5, a6, a7, a8, a9⟩ := hB
    refine ⟨CB_of (fun q => rX _ (by have := @szr_b q; omega) (by have := @szr_b q; omega) (by have := @szr_b q; omega)) a1, fun q hq => LQ_ofp (rX _ (by have := @szr_b q; omega) (by have := @szr_b q; omega) (by have := @szr_b q; omega)) (by rw [rX 50 (by decide) (by decide) (by decide)]) (a2 q hq), by rw [y0t]; exact hv, by rw [y0u]; exact a4, fun i hi => ?_, .inl y47t, by rw [y47u]; exact a7, fun q hq g => by rw [cn q, sn q]; exact a8 q hq g, ?_⟩
    · rw [← hX', mwr_r _ _ _ _ (show 1 ≠ 47 by decide), mwr_r _ _ _ _ (show 1 ≠ 0 by decide)]
      by_cases e : i = 49 * 0 + k
      · rw [e, mwr_s]; exact hb
      · rw [mwr_q _ _ _ _ e]; exact a5 i hi
    · rw [rX 2 (by decide) (by decide) (by decide), rX 5 (by decide) (by decide) (by decide), rX 10 (by decide) (by decide) (by decide), rX 13 (by decide) (by decide) (by decide), rX 17 (by decide) (by decide) (by decide), rX 34 (by decide) (by decide) (by decide)]
      exact a9
  have nf : ¬ nI 0 = nI 1 := by decide +kernel
  refine ⟨hBY, fun j hj => ?_, by rw [rX 10 (by decide) (by decide) (by decide), rG 10 (by decide) (by decide)]; exact h10, fun i hi => by rw [rX 11 (by decide) (by decide) (by decide), rX 12 (by decide) (by decide) (by decide), rG 11 (by decide) (by decide), rG 12 (by decide) (by decide)]; exact hke i (by rw [cn] at hi; exact hi), by rw [cn, sn]; exact hs, fun z => ?_, fun z => ?_, ?_, ?_, ?_, by rw [rX 53 (by decide) (by decide) (by decide)]; exact h53, ?_⟩
  · by_cases e0 : j = 0
    · rw [e0]; exact y0
    · by_cases e1 : j = 1
      · rw [e1]; exact y1
      · rw [rX j e0 e1 (by unfold cj at hj; omega), rG j e0 e1]; exact hc j hj
  · rw [y47t] at z; exact absurd z nf
  · exact sy1_k tG (fun r g => rX r (by omega) (by omega) (by omega)) (s1 (by rw [y47u] at z; exact z))
  · exact fun z => absurd (y47t.symm.trans z) nf
  · exact fl1_k tX y47u (by rw [rX 48 (by decide) (by decide) (by decide)]) f1
  · unfold df
    rw [rX 45 (by decide) (by decide) (by decide), rX 25 (by decide) (by decide) (by decide), rX 26 (by decide) (by decide) (by decide)]
    exact hd
  · unfold AS
    rw [rX 52 (by decide) (by decide) (by decide)]
    exact hA
/-- text 1 changes -/
theorem XY_tx1 {G X : xSt} (h : XY G X) {k : Nat} {v b : Int32} (hk : k < 49) (hb : bd b 255) (hv : bd v 49) : XY (mwr (mwr G 1 (49 * 1 + k) b) 0 1 v) (mwr (mwr (mwr X 1 (49 * 1 + k) b) 0 1 v) 47 1 (nI 0)) := by
  obtain ⟨hB, hc, h10, hke, hs, s0, s1, f0, f1, hd, h53, hA⟩ := id h
  generalize hX' : mwr (mwr (mwr X 1 (49 * 1 + k) b) 0 1 v) 47 1 (nI 0) = Y
  generalize hG' : mwr (mwr G 1 (49 * 1 + k) b) 0 1 v = H
  have rX : ∀ r, r ≠ 0 → r ≠ 1 → r ≠ 47 → Y r = X r := fun r a b c => by rw [← hX', mwr_R _ _ _ c, mwr_R _ _ _ a, mwr_R _ _ _ b]
  have rG : ∀ r, r ≠ 0 → r ≠ 1 → H r = G r := fun r a b => by rw [← hG', mwr_R _ _ _ a, mwr_R _ _ _ b]
  have x0 : X 0 = G 0 := hc 0 (by unfold cj; omega)
  have x1 : X 1 = G 1 := hc 1 (by unfold cj; omega)
  have y0 : Y 0 = H 0 := by
    rw [← hX', ← hG', mwr_R _ _ _ (show 0 ≠ 47 by decide)]
    funext q
    unfold mwr
    rw [x0]
  have y1 : Y 1 = H 1 := by
    rw [← hX', ← hG', mwr_R _ _ _ (show 1 ≠ 47 by decide), mwr_R _ _ _ (show 1 ≠ 0 by decide), mwr_R _ _ _ (show 1 ≠ 0 by decide)]
    funext q
    unfold mwr
    rw [x1]
  have z0 : ∀ S S' : xSt, S' = mwr (mwr S 1 (49 * 1 + k) b) 0 1 v → bd (S 0 0) 23 → TE 0 S' S := by
    intro S S' e hbu
    have e0 : S' 0 0 = S 0 0 := by rw [e, mwr_q _ _ _ _ (by decide), mwr_r _ _ _ _ (by decide)]
    refine ⟨e0, ?_⟩
    funext a
    unfold tbF
    rw [e0]
    by_cases g : S 0 0 ≤ nI a
    · rw [if_pos g, if_pos g]
    · rw [if_neg g, if_neg g, e, mwr_r _ _ _ _ (show 1 ≠ 0 by decide)]
      refine mwr_q _ _ _ _ (fun ea => g ?_)
      obtain ⟨m, hm, em⟩ := hbu
      rw [em]
      exact nI_le (by omega) (by omega)
  have xb0 : bd (X 0 0) 23 := hB.2.2.1
  have y0t : Y 0 1 = v := by rw [← hX', mwr_r _ _ _ _ (by decide), mwr_s]
  have y0u : Y 0 0 = X 0 0 := by rw [← hX', mwr_r _ _ _ _ (by decide), mwr_q _ _ _ _ (by decide), mwr_r _ _ _ _ (by decide)]
  have y47t : Y 47 1 = nI 0 := by rw [← hX', mwr_s]
  have y47u : Y 47 0 = X 47 0 := by rw [← hX', mwr_q _ _ _ _ (by decide), mwr_r _ _ _ _ (by decide), mwr_r _ _ _ _ (by decide)]
  have tG : TE 0 H G := z0 G H hG'.symm (by rw [← x0]; exact xb0)
  have tX : TE 0 Y X := by
    have z := z0 X _ rfl xb0
    refine ⟨y0u, ?_⟩
    rw [← z.2]
    exact tbF_c (by rw [← hX', mwr_R _ _ _ (show 0 ≠ 47 by decide)]) (by rw [← hX', mwr_R _ _ _ (show 1 ≠ 47 by decide)]) 0
  have cn : ∀ q, cnt Y q = cnt X q := fun q => by unfold cnt; rw [rX _ (by have := @szr_b q; omega) (by have := @szr_b q; omega) (by have := @szr_b q; omega)]
  have sn : ∀ q, std Y q = std X q := fun q => by unfold std; rw [rX 54 (by decide) (by decide) (by decide)]
  have hBY : BX Y := by
    obtain ⟨a1, a2, a3, a4, a5, a6, a7, a8, a9⟩ := hB
    refine ⟨CB_of (fun q => rX _ (by have := @szr_b q; omega) (by have := @szr_b q; omega) (by have := @szr_b q; omega)) a1, fun q hq => LQ_ofp (rX _ (by have := @szr_b q; omega) (by have := @szr_b q; omega) (by have := @szr_b q; omega)) (by rw [rX 50 (by decide) (by decide) (by decide)]) (a2 q hq), by rw [y0u]; exact a3, by rw [y0t]; exact hv, fun i hi => ?_, by rw [y47u]; exact a6, .inl y47t, fun q hq g => by rw [cn q, sn q]; exact a8 q hq g, ?_⟩
    · rw [← hX', mwr_r _ _ _ _ (show 1 ≠ 47 by decide), mwr_r _ _ _ _ (show 1 ≠ 0 by decide)]
      by_cases e : i = 49 * 1 + k
      · rw [e, mwr_s]; exact hb
      · rw [mwr_q _ _ _ _ e]; exact a5 i hi
    · rw [rX 2 (by decide) (by decide) (by decide), rX 5 (by decide) (by decide) (by decide), rX 10 (by decide) (by decide) (by decide), rX 13 (by decide) (by decide) (by decide), rX 17 (by decide) (by decide) (by decide), rX 34 (by decide) (by decide) (by decide)]
      exact a9
  have nf : ¬ nI 0 = nI 1 := by decide +kernel
  refine ⟨hBY, fun j hj => ?_, by rw [rX 10 (by decide) (by decide) (by decide), rG 10 (by decide) (by decide)]; exact h10, fun i hi => by rw [rX 11 (by decide) (by decide) (by decide), rX 12 (by decide) (by decide) (by decide), rG 11 (by decide) (by decide), rG 12 (by decide) (by decide)]; exact hke i (by rw [cn] at hi; exact hi), by rw [cn, sn]; exact hs, fun z => ?_, fun z => ?_, ?_, ?_, ?_, by rw [rX 53 (by decide) (by decide) (by decide)]; exact h53, ?_⟩
  · by_cases e0 : j = 0
    · rw [e0]; exact y0
    · by_cases e1 : j = 1
      · rw [e1]; exact y1
      · rw [rX j e0 e1 (by unfold cj at hj; omega), rG j e0 e1]; exact hc j hj
  · exact sy0_k tG (fun r g => rX r (by omega) (by omega) (by omega)) (s0 (by rw [y47u] at z; exact z))
  · rw [y47t] at z; exact absurd z nf
  · exact fl0_k tX y47u (by rw [rX 48 (by decide) (by decide) (by decide)]) f0
  · exact fun z => absurd (y47t.symm.trans z) nf
  · unfold df
    rw [rX 45 (by decide) (by decide) (by decide), rX 25 (by decide) (by decide) (by decide), rX 26 (by decide) (by decide) (by decide)]
    exact hd
  · unfold AS
    rw [rX 52 (by decide) (by decide) (by decide)]
    exact hA
