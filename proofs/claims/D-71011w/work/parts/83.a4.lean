/-! PromiseTailor's side: lists of numbers grow and shrink -/
set_option maxRecDepth 100000
theorem tgt_el {X : xSt} (h : CB X) (hA : AS X) {q n : Nat} (hq : q < 6) (hn : cnt X q ≤ n) (hn64 : n < 64) : ¬ tgt X (1088 + 64 * q + n) := by
  intro ht
  unfold tgt at ht
  rcases ht with ht | ⟨q', h1, h2, h3⟩ | ht | ⟨s, h1, h2, h3⟩ | ht | ⟨q', i, h1, h2, h3⟩ | ⟨i, h1, h2, h3⟩
  · omega
  · omega
  · omega
  · omega
  · omega
  · have := h.1 q' h1
    have e : q' = q := by omega
    subst e
    omega
  · rcases h3 with ⟨h3, h4⟩ | ⟨h3, h4⟩
    · omega
    · rcases hA i h1 with z | z
      · exact h2 z
      · exact h3 z
theorem LQ_addX {Y : xSt} {q : Nat} (h : LQ Y q) (hn : cnt Y q < 10) : LQ (addX q Y) q ∧ cnt (addX q Y) q = cnt Y q + 1 := by
  have e : cnt (addX q Y) q = cnt Y q + 1 := cnt_of (addX_sz q Y) (by omega)
  refine ⟨⟨h.1, by rw [e]; exact addX_sz q Y, by omega, fun z => ?_⟩, e⟩
  rw [addX_50] at z
  exact absurd z nI1_0
/-- the names that a list may give anew -/
def aF (q n : Nat) : Prop := n = 256 + q ∨ (1088 + 64 * q ≤ n ∧ n < 1152 + 64 * q)
theorem aF_lo {q : Nat} (hq : q < 6) : ∀ n, 900 ≤ n → n < 950 → ¬ aF q n := fun n h1 h2 h => by unfold aF at h; omega
theorem aF_ok {q b : Nat} (h : b < 256) : ¬ aF q b := fun h => by unfold aF at h; omega

theorem wk2 {X : xSt} {n : Nat} (hs : std X 2 = n) (hn : n < 64) (v0 v1 : Int32) : upw (wX X) (1216 + n) (.inl (.int, true, 2, cutI 2 (fun i => if i = 1 then v1 else if i = 0 then v0 else 0))) = wX (mwr (mwr (mwr X 54 2 (nI (n + 1))) 11 n v0) 12 n v1) := by
  have hs' : std (mwr (mwr (mwr X 54 2 (nI (n + 1))) 11 n v0) 12 n v1) 2 = n + 1 := by unfold std; rw [mwr_r _ _ _ _ (by decide), mwr_r _ _ _ _ (by decide), mwr_s]; exact vN_nI (by omega)
  refine wX_up ((wX_ke _ hn (by rw [hs']; omega)).trans (congrArg (fun z => some (Sum.inl (FieldType.int, true, 2, z))) (cutI_congr fun i hi => ?_))) fun m hm => ?_
  · match i, hi with
    | 0, _ => show (mwr (mwr (mwr X 54 2 (nI (n + 1))) 11 n v0) 12 n v1) 11 n = v0; rw [mwr_r _ _ _ _ (show 11 ≠ 12 by decide), mwr_s]
    | 1, _ => show (mwr (mwr (mwr X 54 2 (nI (n + 1))) 11 n v0) 12 n v1) 12 n = v1; rw [mwr_s]
    | i + 2, hi => exact absurd hi (by omega)
  · rw [wX_mwr (by rw [dep_12]; omega), wX_mwr (by rw [dep_11]; omega), wX_st2 hs hn hm]
/-- the list 2 shorter -/
theorem wX_dn2 {X : xSt} {j : Nat} (hj : j ≤ std X 2) (hj2 : std X 2 < 64) : ∀ m c, wX (mwr X 54 2 (nI j)) m = some c → wX X m = some c := by
  intro m c hc
  have h2 : std (mwr X 54 2 (nI j)) 2 = j := by unfold std; rw [mwr_s]; exact vN_nI (by omega)
  by_cases hb : 1216 ≤ m ∧ m < 1280
  · obtain ⟨d, rfl⟩ : ∃ d, m = 1216 + d := ⟨m - 1216, by omega⟩
    by_cases e : d < j
    · rw [wX_ke _ (by omega) (by omega)] at hc
      rw [wX_ke _ (by omega) (by omega), ← hc]
      exact congrArg (fun z => some (Sum.inl (FieldType.int, true, 2, z))) (cutI_congr fun i hi => (mwr_r _ _ _ _ (by omega)).symm)
    · rw [wX_ke0 _ (by omega) (by omega)] at hc; cases hc
  · rw [wX_mwr (by rw [dep_54]; omega)] at hc; exact hc
theorem XY_add2 {G X : xSt} (h : XY G X) {n : Nat} (hc : cnt X 2 = n) (hn : n < 8) (v0 v1 : Int32) (hb : bd v1 9) : CB (mwr (mwr (mwr X 54 2 (nI (n + 1))) 11 n v0) 12 n v1) ∧ LQ (mwr (mwr (mwr X 54 2 (nI (n + 1))) 11 n v0) 12 n v1) 2 ∧ cnt (mwr (mwr (mwr X 54 2 (nI (n + 1))) 11 n v0) 12 n v1) 2 = n ∧ std (mwr (mwr (mwr X 54 2 (nI (n + 1))) 11 n v0) 12 n v1) 2 = n + 1 ∧ eln (mwr (mwr (mwr X 54 2 (nI (n + 1))) 11 n v0) 12 n v1) 2 n = 1216 + n ∧ LQ (addX 2 (mwr (mwr (mwr X 54 2 (nI (n + 1))) 11 n v0) 12 n v1)) 2 ∧ cnt (addX 2 (mwr (mwr (mwr X 54 2 (nI (n + 1))) 11 n v0) 12 n v1)) 2 = n + 1 ∧ XY (mwr (mwr (mwr G 11 n v0) 12 n v1) 10 0 (nI (n + 1))) (addX 2 (mwr (mwr (mwr X 54 2 (nI (n + 1))) 11 n v0) 12 n v1)) := by
  have yx : ∀ r, r ≠ 11 → r ≠ 12 → r ≠ 54 → (mwr (mwr (mwr X 54 2 (nI (n + 1))) 11 n v0) 12 n v1) r = X r := fun r a0 a1 a2 => by rw [mwr_R _ _ _ a1, mwr_R _ _ _ a0, mwr_R _ _ _ a2]
  have ysz : ∀ p, (mwr (mwr (mwr X 54 2 (nI (n + 1))) 11 n v0) 12 n v1) (szr p) = X (szr p) := fun p => yx _ (by have := @szr_b p; omega) (by have := @szr_b p; omega) (by have := @szr_b p; omega)
  have hcb : CB (mwr (mwr (mwr X 54 2 (nI (n + 1))) 11 n v0) 12 n v1) := CB_of ysz h.1.1
  have hL : LQ (mwr (mwr (mwr X 54 2 (nI (n + 1))) 11 n v0) 12 n v1) 2 := LQ_ofp (ysz 2) (congrFun (yx 50 (by decide) (by decide) (by decide)) 2) (h.1.2.1 2 (by decide))
  have cY : cnt (mwr (mwr (mwr X 54 2 (nI (n + 1))) 11 n v0) 12 n v1) 2 = n := by unfold cnt at *; rw [ysz 2]; exact hc
  have sY : std (mwr (mwr (mwr X 54 2 (nI (n + 1))) 11 n v0) 12 n v1) 2 = n + 1 := by unfold std; rw [mwr_r _ _ _ _ (by decide), mwr_r _ _ _ _ (by decide), mwr_s]; exact vN_nI (by omega)
  obtain ⟨hLZ, cZ⟩ := LQ_addX hL (by omega)
  rw [cY] at cZ
  have hZ : (addX 2 (mwr (mwr (mwr X 54 2 (nI (n + 1))) 11 n v0) 12 n v1)) = mwr (mwr (mwr (mwr (mwr (mwr X 54 2 (nI (n + 1))) 11 n v0) 12 n v1) 49 2 ((mwr (mwr (mwr X 54 2 (nI (n + 1))) 11 n v0) 12 n v1) 49 2 + nI 1)) 50 2 (nI 1)) 10 0 (nI (n + 1)) := by unfold addX; rw [cY]; rfl
  have zr : ∀ r, r ≠ 49 → r ≠ 50 → r ≠ 10 → (addX 2 (mwr (mwr (mwr X 54 2 (nI (n + 1))) 11 n v0) 12 n v1)) r = (mwr (mwr (mwr X 54 2 (nI (n + 1))) 11 n v0) 12 n v1) r := fun r a b c => by rw [hZ, mwr_R _ _ _ c, mwr_R _ _ _ b, mwr_R _ _ _ a]
  have sZ : std (addX 2 (mwr (mwr (mwr X 54 2 (nI (n + 1))) 11 n v0) 12 n v1)) 2 = n + 1 := (congrArg vN (congrFun (zr 54 (by decide) (by decide) (by decide)) 2)).trans sY
  have zx : ∀ r, r ≠ 49 → r ≠ 50 → r ≠ 10 → r ≠ 54 → r ≠ 11 → r ≠ 12 → (addX 2 (mwr (mwr (mwr X 54 2 (nI (n + 1))) 11 n v0) 12 n v1)) r = X r := fun r a b c d e0 e1 => (zr r a b c).trans (yx r e0 e1 d)
  have hr : ∀ r, r ≠ 10 → r ≠ 11 → r ≠ 12 → (mwr (mwr (mwr G 11 n v0) 12 n v1) 10 0 (nI (n + 1))) r = G r := fun r c e0 e1 => by rw [mwr_R _ _ _ c, mwr_R _ _ _ e1, mwr_R _ _ _ e0]
  have h53 : X 53 0 = nI 0 := h.2.2.2.2.2.2.2.2.2.2.1
  have he : eln (mwr (mwr (mwr X 54 2 (nI (n + 1))) 11 n v0) 12 n v1) 2 n = 1216 + n := by unfold eln; rw [if_neg (fun z => by have w := z.2; rw [yx 53 (by decide) (by decide) (by decide), h53] at w; exact absurd w (by decide +kernel))]
  have c2 : cnt (addX 2 (mwr (mwr (mwr X 54 2 (nI (n + 1))) 11 n v0) 12 n v1)) 2 = n + 1 := cZ
  have s2 : std (addX 2 (mwr (mwr (mwr X 54 2 (nI (n + 1))) 11 n v0) 12 n v1)) 2 = cnt (addX 2 (mwr (mwr (mwr X 54 2 (nI (n + 1))) 11 n v0) 12 n v1)) 2 := sZ.trans cZ.symm
  have hB : BX (addX 2 (mwr (mwr (mwr X 54 2 (nI (n + 1))) 11 n v0) 12 n v1)) := BX_q2 h.1 (fun r g => zx r (by omega) (by omega) (by omega) (by omega) (by omega) (by omega)) (fun p g => by rw [hZ, mwr_r _ _ _ _ (by decide), mwr_q _ _ _ _ g, mwr_r _ _ _ _ (by decide), mwr_r _ _ _ _ (by decide), mwr_r _ _ _ _ (by decide), mwr_r _ _ _ _ (by decide)]) (fun p g => by rw [zr 54 (by decide) (by decide) (by decide), mwr_r _ _ _ _ (by decide), mwr_r _ _ _ _ (by decide), mwr_q _ _ _ _ g]) (by rw [hZ, mwr_s]; exact bd_n (by omega)) hLZ (sZ.trans cZ.symm)
  refine ⟨hcb, hL, cY, sY, he, hLZ, cZ, XY_nt h hB (fun j hj => ?_) (by rw [hZ, mwr_s, mwr_s]) (fun i hi => ?_) s2 (fun r g => zx r (by omega) (by omega) (by omega) (by omega) (by omega) (by omega)) ⟨hr 0 (by decide) (by decide) (by decide), hr 1 (by decide) (by decide) (by decide)⟩⟩
  · have hx := h.2.1 j hj
    unfold cj at hj
    rw [zx j (by omega) (by omega) (by omega) (by omega) (by omega) (by omega), hr j (by omega) (by omega) (by omega)]; exact hx
  · rw [cZ] at hi
    by_cases e : i = n
    · rw [e]
      exact ⟨by rw [zr 11 (by decide) (by decide) (by decide), mwr_r _ _ _ _ (by decide), mwr_s, mwr_r _ _ _ _ (by decide), mwr_r _ _ _ _ (by decide), mwr_s], by rw [zr 12 (by decide) (by decide) (by decide), mwr_s, mwr_r _ _ _ _ (by decide), mwr_s], by rw [zr 12 (by decide) (by decide) (by decide), mwr_s]; exact hb⟩
    · have z := h.2.2.2.1 i (by omega)
      rw [zr 11 (by decide) (by decide) (by decide), zr 12 (by decide) (by decide) (by decide), mwr_r _ _ _ _ (show 11 ≠ 12 by decide), mwr_q _ _ _ _ e, mwr_r _ _ _ _ (show 11 ≠ 54 by decide), mwr_q _ _ _ _ e, mwr_r _ _ _ _ (show 12 ≠ 11 by decide), mwr_r _ _ _ _ (show 12 ≠ 54 by decide), mwr_r _ _ _ _ (show 11 ≠ 10 by decide), mwr_r _ _ _ _ (show 11 ≠ 12 by decide), mwr_q _ _ _ _ e, mwr_r _ _ _ _ (show 12 ≠ 10 by decide), mwr_q _ _ _ _ e, mwr_r _ _ _ _ (show 12 ≠ 11 by decide)]
      exact z
theorem XY_dn2 {G X : xSt} (h : XY G X) {j : Nat} (hj : j ≤ cnt X 2) : LQ (mwr (mwr (mwr X 49 2 (X 49 2 + nI 1)) 10 0 (nI j)) 54 2 (nI j)) 2 ∧ cnt (mwr (mwr (mwr X 49 2 (X 49 2 + nI 1)) 10 0 (nI j)) 54 2 (nI j)) 2 = j ∧ XY (mwr G 10 0 (nI j)) (mwr (mwr (mwr X 49 2 (X 49 2 + nI 1)) 10 0 (nI j)) 54 2 (nI j)) := by
  have hc8 : cnt X 2 ≤ 8 := (bd_v h.1.2.2.2.2.2.2.2.2.2.2.1 (by decide)).2
  have zx : ∀ r, r ≠ 49 → r ≠ 10 → r ≠ 54 → (mwr (mwr (mwr X 49 2 (X 49 2 + nI 1)) 10 0 (nI j)) 54 2 (nI j)) r = X r := fun r a b c => by rw [mwr_R _ _ _ c, mwr_R _ _ _ b, mwr_R _ _ _ a]
  have hr : ∀ r, r ≠ 10 → (mwr G 10 0 (nI j)) r = G r := fun r a => mwr_R _ _ _ a
  have zs : (mwr (mwr (mwr X 49 2 (X 49 2 + nI 1)) 10 0 (nI j)) 54 2 (nI j)) 10 0 = nI j := by rw [mwr_r _ _ _ _ (by decide), mwr_s]
  have cZ : cnt (mwr (mwr (mwr X 49 2 (X 49 2 + nI 1)) 10 0 (nI j)) 54 2 (nI j)) 2 = j := cnt_of (q := 2) zs (by omega)
  have sZ : std (mwr (mwr (mwr X 49 2 (X 49 2 + nI 1)) 10 0 (nI j)) 54 2 (nI j)) 2 = j := by unfold std; rw [mwr_s]; exact vN_nI (by omega)
  have L0 := h.1.2.1 2 (by decide)
  have hLZ : LQ (mwr (mwr (mwr X 49 2 (X 49 2 + nI 1)) 10 0 (nI j)) 54 2 (nI j)) 2 := ⟨by decide, by rw [cZ]; exact zs, by rw [cZ]; omega, fun z => by rw [cZ]; rw [zx 50 (by decide) (by decide) (by decide)] at z; have := L0.2.2.2 z; omega⟩
  have c2 : cnt (mwr (mwr (mwr X 49 2 (X 49 2 + nI 1)) 10 0 (nI j)) 54 2 (nI j)) 2 = j := cZ
  have s2 : std (mwr (mwr (mwr X 49 2 (X 49 2 + nI 1)) 10 0 (nI j)) 54 2 (nI j)) 2 = cnt (mwr (mwr (mwr X 49 2 (X 49 2 + nI 1)) 10 0 (nI j)) 54 2 (nI j)) 2 := by rw [cZ, sZ]
  have hB : BX (mwr (mwr (mwr X 49 2 (X 49 2 + nI 1)) 10 0 (nI j)) 54 2 (nI j)) := BX_q2 h.1 (fun r g => zx r (by omega) (by omega) (by omega)) (fun p _ => by rw [zx 50 (by decide) (by decide) (by decide)]) (fun p g => by rw [mwr_q _ _ _ _ g, mwr_r _ _ _ _ (by decide), mwr_r _ _ _ _ (by decide)]) (by rw [zs]; exact bd_n (by omega)) hLZ (by rw [cZ, sZ])
  refine ⟨hLZ, cZ, XY_nt h hB (fun r g => ?_) (by rw [zs, mwr_s]) (fun i hi => ?_) s2 (fun r g => zx r (by omega) (by omega) (by omega)) ⟨hr 0 (by decide), hr 1 (by decide)⟩⟩
  · have hx := h.2.1 r g
    unfold cj at g
    rw [zx r (by omega) (by omega) (by omega), hr r (by omega)]; exact hx
  · rw [c2] at hi
    rw [zx 11 (by decide) (by decide) (by decide), zx 12 (by decide) (by decide) (by decide), hr 11 (by decide), hr 12 (by decide)]
    exact h.2.2.2.1 i (by omega)
theorem wk3 {X : xSt} {n : Nat} (hs : std X 3 = n) (hn : n < 64) (v0 v1 v2 : Int32) : upw (wX X) (1280 + n) (.inl (.int, true, 3, cutI 3 (fun i => if i = 2 then v2 else if i = 1 then v1 else if i = 0 then v0 else 0))) = wX (mwr (mwr (mwr (mwr X 54 3 (nI (n + 1))) 14 n v0) 15 n v1) 16 n v2) := by
  have hs' : std (mwr (mwr (mwr (mwr X 54 3 (nI (n + 1))) 14 n v0) 15 n v1) 16 n v2) 3 = n + 1 := by unfold std; rw [mwr_r _ _ _ _ (by decide), mwr_r _ _ _ _ (by decide), mwr_r _ _ _ _ (by decide), mwr_s]; exact vN_nI (by omega)
  refine wX_up ((wX_ly _ hn (by rw [hs']; omega)).trans (congrArg (fun z => some (Sum.inl (FieldType.int, true, 3, z))) (cutI_congr fun i hi => ?_))) fun m hm => ?_
  · match i, hi with
    | 0, _ => show (mwr (mwr (mwr (mwr X 54 3 (nI (n + 1))) 14 n v0) 15 n v1) 16 n v2) 14 n = v0; rw [mwr_r _ _ _ _ (show 14 ≠ 16 by decide), mwr_r _ _ _ _ (show 14 ≠ 15 by decide), mwr_s]
    | 1, _ => show (mwr (mwr (mwr (mwr X 54 3 (nI (n + 1))) 14 n v0) 15 n v1) 16 n v2) 15 n = v1; rw [mwr_r _ _ _ _ (show 15 ≠ 16 by decide), mwr_s]
    | 2, _ => show (mwr (mwr (mwr (mwr X 54 3 (nI (n + 1))) 14 n v0) 15 n v1) 16 n v2) 16 n = v2; rw [mwr_s]
    | i + 3, hi => exact absurd hi (by omega)
  · rw [wX_mwr (by rw [dep_16]; omega), wX_mwr (by rw [dep_15]; omega), wX_mwr (by rw [dep_14]; omega), wX_st3 hs hn hm]
/-- the list 3 shorter -/
theorem wX_dn3 {X : xSt} {j : Nat} (hj : j ≤ std X 3) (hj2 : std X 3 < 64) : ∀ m c, wX (mwr X 54 3 (nI j)) m = some c → wX X m = some c := by
  intro m c hc
  have h2 : std (mwr X 54 3 (nI j)) 3 = j := by unfold std; rw [mwr_s]; exact vN_nI (by omega)
  by_cases hb : 1280 ≤ m ∧ m < 1344
  · obtain ⟨d, rfl⟩ : ∃ d, m = 1280 + d := ⟨m - 1280, by omega⟩
    by_cases e : d < j
    · rw [wX_ly _ (by omega) (by omega)] at hc
      rw [wX_ly _ (by omega) (by omega), ← hc]
      exact congrArg (fun z => some (Sum.inl (FieldType.int, true, 3, z))) (cutI_congr fun i hi => (mwr_r _ _ _ _ (by omega)).symm)
    · rw [wX_ly0 _ (by omega) (by omega)] at hc; cases hc
  · rw [wX_mwr (by rw [dep_54]; omega)] at hc; exact hc
theorem XY_add3 {G X : xSt} (h : XY G X) {n : Nat} (hc : cnt X 3 = n) (hn : n < 6) (v0 v1 v2 : Int32) : CB (mwr (mwr (mwr (mwr X 54 3 (nI (n + 1))) 14 n v0) 15 n v1) 16 n v2) ∧ LQ (mwr (mwr (mwr (mwr X 54 3 (nI (n + 1))) 14 n v0) 15 n v1) 16 n v2) 3 ∧ cnt (mwr (mwr (mwr (mwr X 54 3 (nI (n + 1))) 14 n v0) 15 n v1) 16 n v2) 3 = n ∧ std (mwr (mwr (mwr (mwr X 54 3 (nI (n + 1))) 14 n v0) 15 n v1) 16 n v2) 3 = n + 1 ∧ eln (mwr (mwr (mwr (mwr X 54 3 (nI (n + 1))) 14 n v0) 15 n v1) 16 n v2) 3 n = 1280 + n ∧ LQ (addX 3 (mwr (mwr (mwr (mwr X 54 3 (nI (n + 1))) 14 n v0) 15 n v1) 16 n v2)) 3 ∧ cnt (addX 3 (mwr (mwr (mwr (mwr X 54 3 (nI (n + 1))) 14 n v0) 15 n v1) 16 n v2)) 3 = n + 1 ∧ XY (mwr (mwr (mwr (mwr G 14 n v0) 15 n v1) 16 n v2) 13 0 (nI (n + 1))) (addX 3 (mwr (mwr (mwr (mwr X 54 3 (nI (n + 1))) 14 n v0) 15 n v1) 16 n v2)) := by
  have yx : ∀ r, r ≠ 14 → r ≠ 15 → r ≠ 16 → r ≠ 54 → (mwr (mwr (mwr (mwr X 54 3 (nI (n + 1))) 14 n v0) 15 n v1) 16 n v2) r = X r := fun r a0 a1 a2 a3 => by rw [mwr_R _ _ _ a2, mwr_R _ _ _ a1, mwr_R _ _ _ a0, mwr_R _ _ _ a3]
  have ysz : ∀ p, (mwr (mwr (mwr (mwr X 54 3 (nI (n + 1))) 14 n v0) 15 n v1) 16 n v2) (szr p) = X (szr p) := fun p => yx _ (by have := @szr_b p; omega) (by have := @szr_b p; omega) (by have := @szr_b p; omega) (by have := @szr_b p; omega)
  have hcb : CB (mwr (mwr (mwr (mwr X 54 3 (nI (n + 1))) 14 n v0) 15 n v1) 16 n v2) := CB_of ysz h.1.1
  have hL : LQ (mwr (mwr (mwr (mwr X 54 3 (nI (n + 1))) 14 n v0) 15 n v1) 16 n v2) 3 := LQ_ofp (ysz 3) (congrFun (yx 50 (by decide) (by decide) (by decide) (by decide)) 3) (h.1.2.1 3 (by decide))
  have cY : cnt (mwr (mwr (mwr (mwr X 54 3 (nI (n + 1))) 14 n v0) 15 n v1) 16 n v2) 3 = n := by unfold cnt at *; rw [ysz 3]; exact hc
  have sY : std (mwr (mwr (mwr (mwr X 54 3 (nI (n + 1))) 14 n v0) 15 n v1) 16 n v2) 3 = n + 1 := by unfold std; rw [mwr_r _ _ _ _ (by decide), mwr_r _ _ _ _ (by decide), mwr_r _ _ _ _ (by decide), mwr_s]; exact vN_nI (by omega)
  obtain ⟨hLZ, cZ⟩ := LQ_addX hL (by omega)
  rw [cY] at cZ
  have hZ : (addX 3 (mwr (mwr (mwr (mwr X 54 3 (nI (n + 1))) 14 n v0) 15 n v1) 16 n v2)) = mwr (mwr (mwr (mwr (mwr (mwr (mwr X 54 3 (nI (n + 1))) 14 n v0) 15 n v1) 16 n v2) 49 3 ((mwr (mwr (mwr (mwr X 54 3 (nI (n + 1))) 14 n v0) 15 n v1) 16 n v2) 49 3 + nI 1)) 50 3 (nI 1)) 13 0 (nI (n + 1)) := by unfold addX; rw [cY]; rfl
  have zr : ∀ r, r ≠ 49 → r ≠ 50 → r ≠ 13 → (addX 3 (mwr (mwr (mwr (mwr X 54 3 (nI (n + 1))) 14 n v0) 15 n v1) 16 n v2)) r = (mwr (mwr (mwr (mwr X 54 3 (nI (n + 1))) 14 n v0) 15 n v1) 16 n v2) r := fun r a b c => by rw [hZ, mwr_R _ _ _ c, mwr_R _ _ _ b, mwr_R _ _ _ a]
  have sZ : std (addX 3 (mwr (mwr (mwr (mwr X 54 3 (nI (n + 1))) 14 n v0) 15 n v1) 16 n v2)) 3 = n + 1 := (congrArg vN (congrFun (zr 54 (by decide) (by decide) (by decide)) 3)).trans sY
  have zx : ∀ r, r ≠ 49 → r ≠ 50 → r ≠ 13 → r ≠ 54 → r ≠ 14 → r ≠ 15 → r ≠ 16 → (addX 3 (mwr (mwr (mwr (mwr X 54 3 (nI (n + 1))) 14 n v0) 15 n v1) 16 n v2)) r = X r := fun r a b c d e0 e1 e2 => (zr r a b c).trans (yx r e0 e1 e2 d)
  have hr : ∀ r, r ≠ 13 → r ≠ 14 → r ≠ 15 → r ≠ 16 → (mwr (mwr (mwr (mwr G 14 n v0) 15 n v1) 16 n v2) 13 0 (nI (n + 1))) r = G r := fun r c e0 e1 e2 => by rw [mwr_R _ _ _ c, mwr_R _ _ _ e2, mwr_R _ _ _ e1, mwr_R _ _ _ e0]
  have h53 : X 53 0 = nI 0 := h.2.2.2.2.2.2.2.2.2.2.1
  have he : eln (mwr (mwr (mwr (mwr X 54 3 (nI (n + 1))) 14 n v0) 15 n v1) 16 n v2) 3 n = 1280 + n := eln_3 _ _
  have c2 : cnt (addX 3 (mwr (mwr (mwr (mwr X 54 3 (nI (n + 1))) 14 n v0) 15 n v1) 16 n v2)) 2 = cnt X 2 := by unfold cnt; rw [zx (szr 2) (by decide) (by decide) (by decide) (by decide) (by decide) (by decide) (by decide)]
  have s2 : std (addX 3 (mwr (mwr (mwr (mwr X 54 3 (nI (n + 1))) 14 n v0) 15 n v1) 16 n v2)) 2 = cnt (addX 3 (mwr (mwr (mwr (mwr X 54 3 (nI (n + 1))) 14 n v0) 15 n v1) 16 n v2)) 2 := by rw [c2, ← h.2.2.2.2.1]; unfold std; rw [zr 54 (by decide) (by decide) (by decide), mwr_r _ _ _ _ (by decide), mwr_r _ _ _ _ (by decide), mwr_r _ _ _ _ (by decide), mwr_q _ _ _ _ (by decide)]
  have hB : BX (addX 3 (mwr (mwr (mwr (mwr X 54 3 (nI (n + 1))) 14 n v0) 15 n v1) 16 n v2)) := BX_q3 h.1 (fun r g => zx r (by omega) (by omega) (by omega) (by omega) (by omega) (by omega) (by omega)) (fun p g => by rw [hZ, mwr_r _ _ _ _ (by decide), mwr_q _ _ _ _ g, mwr_r _ _ _ _ (by decide), mwr_r _ _ _ _ (by decide), mwr_r _ _ _ _ (by decide), mwr_r _ _ _ _ (by decide), mwr_r _ _ _ _ (by decide)]) (fun p g => by rw [zr 54 (by decide) (by decide) (by decide), mwr_r _ _ _ _ (by decide), mwr_r _ _ _ _ (by decide), mwr_r _ _ _ _ (by decide), mwr_q _ _ _ _ g]) (by rw [hZ, mwr_s]; exact bd_n (by omega)) hLZ (sZ.trans cZ.symm)
  refine ⟨hcb, hL, cY, sY, he, hLZ, cZ, XY_nt h hB (fun j hj => ?_) (by rw [zx 10 (by decide) (by decide) (by decide) (by decide) (by decide) (by decide) (by decide), hr 10 (by decide) (by decide) (by decide) (by decide)]; exact h.2.2.1) (fun i hi => ?_) s2 (fun r g => zx r (by omega) (by omega) (by omega) (by omega) (by omega) (by omega) (by omega)) ⟨hr 0 (by decide) (by decide) (by decide) (by decide), hr 1 (by decide) (by decide) (by decide) (by decide)⟩⟩
  · have hx := h.2.1 j hj
    unfold cj at hj
    funext u
    rw [hZ]
    unfold mwr
    rw [if_neg (show ¬ (j = 50 ∧ u = 3) by omega), if_neg (show ¬ (j = 49 ∧ u = 3) by omega), if_neg (show ¬ (j = 54 ∧ u = 3) by omega), hx]
  · rw [c2] at hi
    rw [zx 11 (by decide) (by decide) (by decide) (by decide) (by decide) (by decide) (by decide), zx 12 (by decide) (by decide) (by decide) (by decide) (by decide) (by decide) (by decide), hr 11 (by decide) (by decide) (by decide) (by decide), hr 12 (by decide) (by decide) (by decide) (by decide)]
    exact h.2.2.2.1 i hi
theorem XY_dn3 {G X : xSt} (h : XY G X) {j : Nat} (hj : j ≤ cnt X 3) : LQ (mwr (mwr (mwr X 49 3 (X 49 3 + nI 1)) 13 0 (nI j)) 54 3 (nI j)) 3 ∧ cnt (mwr (mwr (mwr X 49 3 (X 49 3 + nI 1)) 13 0 (nI j)) 54 3 (nI j)) 3 = j ∧ XY (mwr G 13 0 (nI j)) (mwr (mwr (mwr X 49 3 (X 49 3 + nI 1)) 13 0 (nI j)) 54 3 (nI j)) := by
  have hc8 : cnt X 3 ≤ 6 := (bd_v h.1.2.2.2.2.2.2.2.2.2.2.2.1 (by decide)).2
  have zx : ∀ r, r ≠ 49 → r ≠ 13 → r ≠ 54 → (mwr (mwr (mwr X 49 3 (X 49 3 + nI 1)) 13 0 (nI j)) 54 3 (nI j)) r = X r := fun r a b c => by rw [mwr_R _ _ _ c, mwr_R _ _ _ b, mwr_R _ _ _ a]
  have hr : ∀ r, r ≠ 13 → (mwr G 13 0 (nI j)) r = G r := fun r a => mwr_R _ _ _ a
  have zs : (mwr (mwr (mwr X 49 3 (X 49 3 + nI 1)) 13 0 (nI j)) 54 3 (nI j)) 13 0 = nI j := by rw [mwr_r _ _ _ _ (by decide), mwr_s]
  have cZ : cnt (mwr (mwr (mwr X 49 3 (X 49 3 + nI 1)) 13 0 (nI j)) 54 3 (nI j)) 3 = j := cnt_of (q := 3) zs (by omega)
  have sZ : std (mwr (mwr (mwr X 49 3 (X 49 3 + nI 1)) 13 0 (nI j)) 54 3 (nI j)) 3 = j := by unfold std; rw [mwr_s]; exact vN_nI (by omega)
  have L0 := h.1.2.1 3 (by decide)
  have hLZ : LQ (mwr (mwr (mwr X 49 3 (X 49 3 + nI 1)) 13 0 (nI j)) 54 3 (nI j)) 3 := ⟨by decide, by rw [cZ]; exact zs, by rw [cZ]; omega, fun z => by rw [cZ]; rw [zx 50 (by decide) (by decide) (by decide)] at z; have := L0.2.2.2 z; omega⟩
  have c2 : cnt (mwr (mwr (mwr X 49 3 (X 49 3 + nI 1)) 13 0 (nI j)) 54 3 (nI j)) 2 = cnt X 2 := by unfold cnt; rw [zx (szr 2) (by decide) (by decide) (by decide)]
  have s2 : std (mwr (mwr (mwr X 49 3 (X 49 3 + nI 1)) 13 0 (nI j)) 54 3 (nI j)) 2 = cnt (mwr (mwr (mwr X 49 3 (X 49 3 + nI 1)) 13 0 (nI j)) 54 3 (nI j)) 2 := by rw [c2, ← h.2.2.2.2.1]; unfold std; rw [mwr_q _ _ _ _ (by decide), mwr_r _ _ _ _ (by decide), mwr_r _ _ _ _ (by decide)]
  have hB : BX (mwr (mwr (mwr X 49 3 (X 49 3 + nI 1)) 13 0 (nI j)) 54 3 (nI j)) := BX_q3 h.1 (fun r g => zx r (by omega) (by omega) (by omega)) (fun p _ => by rw [zx 50 (by decide) (by decide) (by decide)]) (fun p g => by rw [mwr_q _ _ _ _ g, mwr_r _ _ _ _ (by decide), mwr_r _ _ _ _ (by decide)]) (by rw [zs]; exact bd_n (by omega)) hLZ (by rw [cZ, sZ])
  refine ⟨hLZ, cZ, XY_nt h hB (fun r g => ?_) (by rw [zx 10 (by decide) (by decide) (by decide), hr 10 (by decide)]; exact h.2.2.1) (fun i hi => ?_) s2 (fun r g => zx r (by omega) (by omega) (by omega)) ⟨hr 0 (by decide), hr 1 (by decide)⟩⟩
  · have hx := h.2.1 r g
    unfold cj at g
    funext u
    unfold mwr
    rw [if_neg (show ¬ (r = 54 ∧ u = 3) by omega), if_neg (show ¬ (r = 49 ∧ u = 3) by omega), hx]
  · rw [c2] at hi
    rw [zx 11 (by decide) (by decide) (by decide), zx 12 (by decide) (by decide) (by decide), hr 11 (by decide), hr 12 (by decide)]
    exact h.2.2.2.1 i (by omega)
theorem wk4 {X : xSt} {n : Nat} (hs : std X 4 = n) (hn : n < 64) (v0 v1 v2 : Int32) : upw (wX X) (1344 + n) (.inl (.int, true, 3, cutI 3 (fun i => if i = 2 then v2 else if i = 1 then v1 else if i = 0 then v0 else 0))) = wX (mwr (mwr (mwr (mwr X 54 4 (nI (n + 1))) 18 n v0) 19 n v1) 20 n v2) := by
  have hs' : std (mwr (mwr (mwr (mwr X 54 4 (nI (n + 1))) 18 n v0) 19 n v1) 20 n v2) 4 = n + 1 := by unfold std; rw [mwr_r _ _ _ _ (by decide), mwr_r _ _ _ _ (by decide), mwr_r _ _ _ _ (by decide), mwr_s]; exact vN_nI (by omega)
  refine wX_up ((wX_lt _ hn (by rw [hs']; omega)).trans (congrArg (fun z => some (Sum.inl (FieldType.int, true, 3, z))) (cutI_congr fun i hi => ?_))) fun m hm => ?_
  · match i, hi with
    | 0, _ => show (mwr (mwr (mwr (mwr X 54 4 (nI (n + 1))) 18 n v0) 19 n v1) 20 n v2) 18 n = v0; rw [mwr_r _ _ _ _ (show 18 ≠ 20 by decide), mwr_r _ _ _ _ (show 18 ≠ 19 by decide), mwr_s]
    | 1, _ => show (mwr (mwr (mwr (mwr X 54 4 (nI (n + 1))) 18 n v0) 19 n v1) 20 n v2) 19 n = v1; rw [mwr_r _ _ _ _ (show 19 ≠ 20 by decide), mwr_s]
    | 2, _ => show (mwr (mwr (mwr (mwr X 54 4 (nI (n + 1))) 18 n v0) 19 n v1) 20 n v2) 20 n = v2; rw [mwr_s]
    | i + 3, hi => exact absurd hi (by omega)
  · rw [wX_mwr (by rw [dep_20]; omega), wX_mwr (by rw [dep_19]; omega), wX_mwr (by rw [dep_18]; omega), wX_st4 hs hn hm]
/-- the list 4 shorter -/
theorem wX_dn4 {X : xSt} {j : Nat} (hj : j ≤ std X 4) (hj2 : std X 4 < 64) : ∀ m c, wX (mwr X 54 4 (nI j)) m = some c → wX X m = some c := by
  intro m c hc
  have h2 : std (mwr X 54 4 (nI j)) 4 = j := by unfold std; rw [mwr_s]; exact vN_nI (by omega)
  by_cases hb : 1344 ≤ m ∧ m < 1408
  · obtain ⟨d, rfl⟩ : ∃ d, m = 1344 + d := ⟨m - 1344, by omega⟩
    by_cases e : d < j
    · rw [wX_lt _ (by omega) (by omega)] at hc
      rw [wX_lt _ (by omega) (by omega), ← hc]
      exact congrArg (fun z => some (Sum.inl (FieldType.int, true, 3, z))) (cutI_congr fun i hi => (mwr_r _ _ _ _ (by omega)).symm)
    · rw [wX_lt0 _ (by omega) (by omega)] at hc; cases hc
  · rw [wX_mwr (by rw [dep_54]; omega)] at hc; exact hc
theorem XY_add4 {G X : xSt} (h : XY G X) {n : Nat} (hc : cnt X 4 = n) (hn : n < 6) (v0 v1 v2 : Int32) : CB (mwr (mwr (mwr (mwr X 54 4 (nI (n + 1))) 18 n v0) 19 n v1) 20 n v2) ∧ LQ (mwr (mwr (mwr (mwr X 54 4 (nI (n + 1))) 18 n v0) 19 n v1) 20 n v2) 4 ∧ cnt (mwr (mwr (mwr (mwr X 54 4 (nI (n + 1))) 18 n v0) 19 n v1) 20 n v2) 4 = n ∧ std (mwr (mwr (mwr (mwr X 54 4 (nI (n + 1))) 18 n v0) 19 n v1) 20 n v2) 4 = n + 1 ∧ eln (mwr (mwr (mwr (mwr X 54 4 (nI (n + 1))) 18 n v0) 19 n v1) 20 n v2) 4 n = 1344 + n ∧ LQ (addX 4 (mwr (mwr (mwr (mwr X 54 4 (nI (n + 1))) 18 n v0) 19 n v1) 20 n v2)) 4 ∧ cnt (addX 4 (mwr (mwr (mwr (mwr X 54 4 (nI (n + 1))) 18 n v0) 19 n v1) 20 n v2)) 4 = n + 1 ∧ XY (mwr (mwr (mwr (mwr G 18 n v0) 19 n v1) 20 n v2) 17 0 (nI (n + 1))) (addX 4 (mwr (mwr (mwr (mwr X 54 4 (nI (n + 1))) 18 n v0) 19 n v1) 20 n v2)) := by
  have yx : ∀ r, r ≠ 18 → r ≠ 19 → r ≠ 20 → r ≠ 54 → (mwr (mwr (mwr (mwr X 54 4 (nI (n + 1))) 18 n v0) 19 n v1) 20 n v2) r = X r := fun r a0 a1 a2 a3 => by rw [mwr_R _ _ _ a2, mwr_R _ _ _ a1, mwr_R _ _ _ a0, mwr_R _ _ _ a3]
  have ysz : ∀ p, (mwr (mwr (mwr (mwr X 54 4 (nI (n + 1))) 18 n v0) 19 n v1) 20 n v2) (szr p) = X (szr p) := fun p => yx _ (by have := @szr_b p; omega) (by have := @szr_b p; omega) (by have := @szr_b p; omega) (by have := @szr_b p; omega)
  have hcb : CB (mwr (mwr (mwr (mwr X 54 4 (nI (n + 1))) 18 n v0) 19 n v1) 20 n v2) := CB_of ysz h.1.1
  have hL : LQ (mwr (mwr (mwr (mwr X 54 4 (nI (n + 1))) 18 n v0) 19 n v1) 20 n v2) 4 := LQ_ofp (ysz 4) (congrFun (yx 50 (by decide) (by decide) (by decide) (by decide)) 4) (h.1.2.1 4 (by decide))
  have cY : cnt (mwr (mwr (mwr (mwr X 54 4 (nI (n + 1))) 18 n v0) 19 n v1) 20 n v2) 4 = n := by unfold cnt at *; rw [ysz 4]; exact hc
  have sY : std (mwr (mwr (mwr (mwr X 54 4 (nI (n + 1))) 18 n v0) 19 n v1) 20 n v2) 4 = n + 1 := by unfold std; rw [mwr_r _ _ _ _ (by decide), mwr_r _ _ _ _ (by decide), mwr_r _ _ _ _ (by decide), mwr_s]; exact vN_nI (by omega)
  obtain ⟨hLZ, cZ⟩ := LQ_addX hL (by omega)
  rw [cY] at cZ
  have hZ : (addX 4 (mwr (mwr (mwr (mwr X 54 4 (nI (n + 1))) 18 n v0) 19 n v1) 20 n v2)) = mwr (mwr (mwr (mwr (mwr (mwr (mwr X 54 4 (nI (n + 1))) 18 n v0) 19 n v1) 20 n v2) 49 4 ((mwr (mwr (mwr (mwr X 54 4 (nI (n + 1))) 18 n v0) 19 n v1) 20 n v2) 49 4 + nI 1)) 50 4 (nI 1)) 17 0 (nI (n + 1)) := by unfold addX; rw [cY]; rfl
  have zr : ∀ r, r ≠ 49 → r ≠ 50 → r ≠ 17 → (addX 4 (mwr (mwr (mwr (mwr X 54 4 (nI (n + 1))) 18 n v0) 19 n v1) 20 n v2)) r = (mwr (mwr (mwr (mwr X 54 4 (nI (n + 1))) 18 n v0) 19 n v1) 20 n v2) r := fun r a b c => by rw [hZ, mwr_R _ _ _ c, mwr_R _ _ _ b, mwr_R _ _ _ a]
  have sZ : std (addX 4 (mwr (mwr (mwr (mwr X 54 4 (nI (n + 1))) 18 n v0) 19 n v1) 20 n v2)) 4 = n + 1 := (congrArg vN (congrFun (zr 54 (by decide) (by decide) (by decide)) 4)).trans sY
  have zx : ∀ r, r ≠ 49 → r ≠ 50 → r ≠ 17 → r ≠ 54 → r ≠ 18 → r ≠ 19 → r ≠ 20 → (addX 4 (mwr (mwr (mwr (mwr X 54 4 (nI (n + 1))) 18 n v0) 19 n v1) 20 n v2)) r = X r := fun r a b c d e0 e1 e2 => (zr r a b c).trans (yx r e0 e1 e2 d)
  have hr : ∀ r, r ≠ 17 → r ≠ 18 → r ≠ 19 → r ≠ 20 → (mwr (mwr (mwr (mwr G 18 n v0) 19 n v1) 20 n v2) 17 0 (nI (n + 1))) r = G r := fun r c e0 e1 e2 => by rw [mwr_R _ _ _ c, mwr_R _ _ _ e2, mwr_R _ _ _ e1, mwr_R _ _ _ e0]
  have h53 : X 53 0 = nI 0 := h.2.2.2.2.2.2.2.2.2.2.1
  have he : eln (mwr (mwr (mwr (mwr X 54 4 (nI (n + 1))) 18 n v0) 19 n v1) 20 n v2) 4 n = 1344 + n := eln_4 _ _
  have c2 : cnt (addX 4 (mwr (mwr (mwr (mwr X 54 4 (nI (n + 1))) 18 n v0) 19 n v1) 20 n v2)) 2 = cnt X 2 := by unfold cnt; rw [zx (szr 2) (by decide) (by decide) (by decide) (by decide) (by decide) (by decide) (by decide)]
  have s2 : std (addX 4 (mwr (mwr (mwr (mwr X 54 4 (nI (n + 1))) 18 n v0) 19 n v1) 20 n v2)) 2 = cnt (addX 4 (mwr (mwr (mwr (mwr X 54 4 (nI (n + 1))) 18 n v0) 19 n v1) 20 n v2)) 2 := by rw [c2, ← h.2.2.2.2.1]; unfold std; rw [zr 54 (by decide) (by decide) (by decide), mwr_r _ _ _ _ (by decide), mwr_r _ _ _ _ (by decide), mwr_r _ _ _ _ (by decide), mwr_q _ _ _ _ (by decide)]
  have hB : BX (addX 4 (mwr (mwr (mwr (mwr X 54 4 (nI (n + 1))) 18 n v0) 19 n v1) 20 n v2)) := BX_q4 h.1 (fun r g => zx r (by omega) (by omega) (by omega) (by omega) (by omega) (by omega) (by omega)) (fun p g => by rw [hZ, mwr_r _ _ _ _ (by decide), mwr_q _ _ _ _ g, mwr_r _ _ _ _ (by decide), mwr_r _ _ _ _ (by decide), mwr_r _ _ _ _ (by decide), mwr_r _ _ _ _ (by decide), mwr_r _ _ _ _ (by decide)]) (fun p g => by rw [zr 54 (by decide) (by decide) (by decide), mwr_r _ _ _ _ (by decide), mwr_r _ _ _ _ (by decide), mwr_r _ _ _ _ (by decide), mwr_q _ _ _ _ g]) (by rw [hZ, mwr_s]; exact bd_n (by omega)) hLZ (sZ.trans cZ.symm)
  refine ⟨hcb, hL, cY, sY, he, hLZ, cZ, XY_nt h hB (fun j hj => ?_) (by rw [zx 10 (by decide) (by decide) (by decide) (by decide) (by decide) (by decide) (by decide), hr 10 (by decide) (by decide) (by decide) (by decide)]; exact h.2.2.1) (fun i hi => ?_) s2 (fun r g => zx r (by omega) (by omega) (by omega) (by omega) (by omega) (by omega) (by omega)) ⟨hr 0 (by decide) (by decide) (by decide) (by decide), hr 1 (by decide) (by decide) (by decide) (by decide)⟩⟩
  · have hx := h.2.1 j hj
    unfold cj at hj
    funext u
    rw [hZ]
    unfold mwr
    rw [if_neg (show ¬ (j = 50 ∧ u = 4) by omega), if_neg (show ¬ (j = 49 ∧ u = 4) by omega), if_neg (show ¬ (j = 54 ∧ u = 4) by omega), hx]
  · rw [c2] at hi
    rw [zx 11 (by decide) (by decide) (by decide) (by decide) (by decide) (by decide) (by decide), zx 12 (by decide) (by decide) (by decide) (by decide) (by decide) (by decide) (by decide), hr 11 (by decide) (by decide) (by decide) (by decide), hr 12 (by decide) (by decide) (by decide) (by decide)]
    exact h.2.2.2.1 i hi
theorem XY_dn4 {G X : xSt} (h : XY G X) {j : Nat} (hj : j ≤ cnt X 4) : LQ (mwr (mwr (mwr X 49 4 (X 49 4 + nI 1)) 17 0 (nI j)) 54 4 (nI j)) 4 ∧ cnt (mwr (mwr (mwr X 49 4 (X 49 4 + nI 1)) 17 0 (nI j)) 54 4 (nI j)) 4 = j ∧ XY (mwr G 17 0 (nI j)) (mwr (mwr (mwr X 49 4 (X 49 4 + nI 1)) 17 0 (nI j)) 54 4 (nI j)) := by
  have hc8 : cnt X 4 ≤ 6 := (bd_v h.1.2.2.2.2.2.2.2.2.2.2.2.2.1 (by decide)).2
  have zx : ∀ r, r ≠ 49 → r ≠ 17 → r ≠ 54 → (mwr (mwr (mwr X 49 4 (X 49 4 + nI 1)) 17 0 (nI j)) 54 4 (nI j)) r = X r := fun r a b c => by rw [mwr_R _ _ _ c, mwr_R _ _ _ b, mwr_R _ _ _ a]
  have hr : ∀ r, r ≠ 17 → (mwr G 17 0 (nI j)) r = G r := fun r a => mwr_R _ _ _ a
  have zs : (mwr (mwr (mwr X 49 4 (X 49 4 + nI 1)) 17 0 (nI j)) 54 4 (nI j)) 17 0 = nI j := by rw [mwr_r _ _ _ _ (by decide), mwr_s]
  have cZ : cnt (mwr (mwr (mwr X 49 4 (X 49 4 + nI 1)) 17 0 (nI j)) 54 4 (nI j)) 4 = j := cnt_of (q := 4) zs (by omega)
  have sZ : std (mwr (mwr (mwr X 49 4 (X 49 4 + nI 1)) 17 0 (nI j)) 54 4 (nI j)) 4 = j := by unfold std; rw [mwr_s]; exact vN_nI (by omega)
  have L0 := h.1.2.1 4 (by decide)
  have hLZ : LQ (mwr (mwr (mwr X 49 4 (X 49 4 + nI 1)) 17 0 (nI j)) 54 4 (nI j)) 4 := ⟨by decide, by rw [cZ]; exact zs, by rw [cZ]; omega, fun z => by rw [cZ]; rw [zx 50 (by decide) (by decide) (by decide)] at z; have := L0.2.2.2 z; omega⟩
  have c2 : cnt (mwr (mwr (mwr X 49 4 (X 49 4 + nI 1)) 17 0 (nI j)) 54 4 (nI j)) 2 = cnt X 2 := by unfold cnt; rw [zx (szr 2) (by decide) (by decide) (by decide)]
  have s2 : std (mwr (mwr (mwr X 49 4 (X 49 4 + nI 1)) 17 0 (nI j)) 54 4 (nI j)) 2 = cnt (mwr (mwr (mwr X 49 4 (X 49 4 + nI 1)) 17 0 (nI j)) 54 4 (nI j)) 2 := by rw [c2, ← h.2.2.2.2.1]; unfold std; rw [mwr_q _ _ _ _ (by decide), mwr_r _ _ _ _ (by decide), mwr_r _ _ _ _ (by decide)]
  have hB : BX (mwr (mwr (mwr X 49 4 (X 49 4 + nI 1)) 17 0 (nI j)) 54 4 (nI j)) := BX_q4 h.1 (fun r g => zx r (by omega) (by omega) (by omega)) (fun p _ => by rw [zx 50 (by decide) (by decide) (by decide)]) (fun p g => by rw [mwr_q _ _ _ _ g, mwr_r _ _ _ _ (by decide), mwr_r _ _ _ _ (by decide)]) (by rw [zs]; exact bd_n (by omega)) hLZ (by rw [cZ, sZ])
  refine ⟨hLZ, cZ, XY_nt h hB (fun r g => ?_) (by rw [zx 10 (by decide) (by decide) (by decide), hr 10 (by decide)]; exact h.2.2.1) (fun i hi => ?_) s2 (fun r g => zx r (by omega) (by omega) (by omega)) ⟨hr 0 (by decide), hr 1 (by decide)⟩⟩
  · have hx := h.2.1 r g
    unfold cj at g
    funext u
    unfold mwr
    rw [if_neg (show ¬ (r = 54 ∧ u = 4) by omega), if_neg (show ¬ (r = 49 ∧ u = 4) by omega), hx]
  · rw [c2] at hi
    rw [zx 11 (by decide) (by decide) (by decide), zx 12 (by decide) (by decide) (by decide), hr 11 (by decide), hr 12 (by decide)]
    exact h.2.2.2.1 i (by omega)
theorem wk5 {X : xSt} {n : Nat} (hs : std X 5 = n) (hn : n < 64) (v0 v1 v2 : Int32) : upw (wX X) (1408 + n) (.inl (.int, true, 3, cutI 3 (fun i => if i = 2 then v2 else if i = 1 then v1 else if i = 0 then v0 else 0))) = wX (mwr (mwr (mwr (mwr X 54 5 (nI (n + 1))) 35 n v0) 36 n v1) 37 n v2) := by
  have hs' : std (mwr (mwr (mwr (mwr X 54 5 (nI (n + 1))) 35 n v0) 36 n v1) 37 n v2) 5 = n + 1 := by unfold std; rw [mwr_r _ _ _ _ (by decide), mwr_r _ _ _ _ (by decide), mwr_r _ _ _ _ (by decide), mwr_s]; exact vN_nI (by omega)
  refine wX_up ((wX_sn _ hn (by rw [hs']; omega)).trans (congrArg (fun z => some (Sum.inl (FieldType.int, true, 3, z))) (cutI_congr fun i hi => ?_))) fun m hm => ?_
  · match i, hi with
    | 0, _ => show (mwr (mwr (mwr (mwr X 54 5 (nI (n + 1))) 35 n v0) 36 n v1) 37 n v2) 35 n = v0; rw [mwr_r _ _ _ _ (show 35 ≠ 37 by decide), mwr_r _ _ _ _ (show 35 ≠ 36 by decide), mwr_s]
    | 1, _ => show (mwr (mwr (mwr (mwr X 54 5 (nI (n + 1))) 35 n v0) 36 n v1) 37 n v2) 36 n = v1; rw [mwr_r _ _ _ _ (show 36 ≠ 37 by decide), mwr_s]
    | 2, _ => show (mwr (mwr (mwr (mwr X 54 5 (nI (n + 1))) 35 n v0) 36 n v1) 37 n v2) 37 n = v2; rw [mwr_s]
    | i + 3, hi => exact absurd hi (by omega)
  · rw [wX_mwr (by rw [dep_37]; omega), wX_mwr (by rw [dep_36]; omega), wX_mwr (by rw [dep_35]; omega), wX_st5 hs hn hm]
/-- the list 5 shorter -/
theorem wX_dn5 {X : xSt} {j : Nat} (hj : j ≤ std X 5) (hj2 : std X 5 < 64) : ∀ m c, wX (mwr X 54 5 (nI j)) m = some c → wX X m = some c := by
  intro m c hc
  have h2 : std (mwr X 54 5 (nI j)) 5 = j := by unfold std; rw [mwr_s]; exact vN_nI (by omega)
  by_cases hb : 1408 ≤ m ∧ m < 1472
  · obtain ⟨d, rfl⟩ : ∃ d, m = 1408 + d := ⟨m - 1408, by omega⟩
    by_cases e : d < j
    · rw [wX_sn _ (by omega) (by omega)] at hc
      rw [wX_sn _ (by omega) (by omega), ← hc]
      exact congrArg (fun z => some (Sum.inl (FieldType.int, true, 3, z))) (cutI_congr fun i hi => (mwr_r _ _ _ _ (by omega)).symm)
    · rw [wX_sn0 _ (by omega) (by omega)] at hc; cases hc
  · rw [wX_mwr (by rw [dep_54]; omega)] at hc; exact hc
theorem XY_add5 {G X : xSt} (h : XY G X) {n : Nat} (hc : cnt X 5 = n) (hn : n < 8) (v0 v1 v2 : Int32) : CB (mwr (mwr (mwr (mwr X 54 5 (nI (n + 1))) 35 n v0) 36 n v1) 37 n v2) ∧ LQ (mwr (mwr (mwr (mwr X 54 5 (nI (n + 1))) 35 n v0) 36 n v1) 37 n v2) 5 ∧ cnt (mwr (mwr (mwr (mwr X 54 5 (nI (n + 1))) 35 n v0) 36 n v1) 37 n v2) 5 = n ∧ std (mwr (mwr (mwr (mwr X 54 5 (nI (n + 1))) 35 n v0) 36 n v1) 37 n v2) 5 = n + 1 ∧ eln (mwr (mwr (mwr (mwr X 54 5 (nI (n + 1))) 35 n v0) 36 n v1) 37 n v2) 5 n = 1408 + n ∧ LQ (addX 5 (mwr (mwr (mwr (mwr X 54 5 (nI (n + 1))) 35 n v0) 36 n v1) 37 n v2)) 5 ∧ cnt (addX 5 (mwr (mwr (mwr (mwr X 54 5 (nI (n + 1))) 35 n v0) 36 n v1) 37 n v2)) 5 = n + 1 ∧ XY (mwr (mwr (mwr (mwr G 35 n v0) 36 n v1) 37 n v2) 34 0 (nI (n + 1))) (addX 5 (mwr (mwr (mwr (mwr X 54 5 (nI (n + 1))) 35 n v0) 36 n v1) 37 n v2)) := by
  have yx : ∀ r, r ≠ 35 → r ≠ 36 → r ≠ 37 → r ≠ 54 → (mwr (mwr (mwr (mwr X 54 5 (nI (n + 1))) 35 n v0) 36 n v1) 37 n v2) r = X r := fun r a0 a1 a2 a3 => by rw [mwr_R _ _ _ a2, mwr_R _ _ _ a1, mwr_R _ _ _ a0, mwr_R _ _ _ a3]
  have ysz : ∀ p, (mwr (mwr (mwr (mwr X 54 5 (nI (n + 1))) 35 n v0) 36 n v1) 37 n v2) (szr p) = X (szr p) := fun p => yx _ (by have := @szr_b p; omega) (by have := @szr_b p; omega) (by have := @szr_b p; omega) (by have := @szr_b p; omega)
  have hcb : CB (mwr (mwr (mwr (mwr X 54 5 (nI (n + 1))) 35 n v0) 36 n v1) 37 n v2) := CB_of ysz h.1.1
  have hL : LQ (mwr (mwr (mwr (mwr X 54 5 (nI (n + 1))) 35 n v0) 36 n v1) 37 n v2) 5 := LQ_ofp (ysz 5) (congrFun (yx 50 (by decide) (by decide) (by decide) (by decide)) 5) (h.1.2.1 5 (by decide))
  have cY : cnt (mwr (mwr (mwr (mwr X 54 5 (nI (n + 1))) 35 n v0) 36 n v1) 37 n v2) 5 = n := by unfold cnt at *; rw [ysz 5]; exact hc
  have sY : std (mwr (mwr (mwr (mwr X 54 5 (nI (n + 1))) 35 n v0) 36 n v1) 37 n v2) 5 = n + 1 := by unfold std; rw [mwr_r _ _ _ _ (by decide), mwr_r _ _ _ _ (by decide), mwr_r _ _ _ _ (by decide), mwr_s]; exact vN_nI (by omega)
  obtain ⟨hLZ, cZ⟩ := LQ_addX hL (by omega)
  rw [cY] at cZ
  have hZ : (addX 5 (mwr (mwr (mwr (mwr X 54 5 (nI (n + 1))) 35 n v0) 36 n v1) 37 n v2)) = mwr (mwr (mwr (mwr (mwr (mwr (mwr X 54 5 (nI (n + 1))) 35 n v0) 36 n v1) 37 n v2) 49 5 ((mwr (mwr (mwr (mwr X 54 5 (nI (n + 1))) 35 n v0) 36 n v1) 37 n v2) 49 5 + nI 1)) 50 5 (nI 1)) 34 0 (nI (n + 1)) := by unfold addX; rw [cY]; rfl
  have zr : ∀ r, r ≠ 49 → r ≠ 50 → r ≠ 34 → (addX 5 (mwr (mwr (mwr (mwr X 54 5 (nI (n + 1))) 35 n v0) 36 n v1) 37 n v2)) r = (mwr (mwr (mwr (mwr X 54 5 (nI (n + 1))) 35 n v0) 36 n v1) 37 n v2) r := fun r a b c => by rw [hZ, mwr_R _ _ _ c, mwr_R _ _ _ b, mwr_R _ _ _ a]
  have sZ : std (addX 5 (mwr (mwr (mwr (mwr X 54 5 (nI (n + 1))) 35 n v0) 36 n v1) 37 n v2)) 5 = n + 1 := (congrArg vN (congrFun (zr 54 (by decide) (by decide) (by decide)) 5)).trans sY
  have zx : ∀ r, r ≠ 49 → r ≠ 50 → r ≠ 34 → r ≠ 54 → r ≠ 35 → r ≠ 36 → r ≠ 37 → (addX 5 (mwr (mwr (mwr (mwr X 54 5 (nI (n + 1))) 35 n v0) 36 n v1) 37 n v2)) r = X r := fun r a b c d e0 e1 e2 => (zr r a b c).trans (yx r e0 e1 e2 d)
  have hr : ∀ r, r ≠ 34 → r ≠ 35 → r ≠ 36 → r ≠ 37 → (mwr (mwr (mwr (mwr G 35 n v0) 36 n v1) 37 n v2) 34 0 (nI (n + 1))) r = G r := fun r c e0 e1 e2 => by rw [mwr_R _ _ _ c, mwr_R _ _ _ e2, mwr_R _ _ _ e1, mwr_R _ _ _ e0]
  have h53 : X 53 0 = nI 0 := h.2.2.2.2.2.2.2.2.2.2.1
  have he : eln (mwr (mwr (mwr (mwr X 54 5 (nI (n + 1))) 35 n v0) 36 n v1) 37 n v2) 5 n = 1408 + n := eln_5 _ _
  have c2 : cnt (addX 5 (mwr (mwr (mwr (mwr X 54 5 (nI (n + 1))) 35 n v0) 36 n v1) 37 n v2)) 2 = cnt X 2 := by unfold cnt; rw [zx (szr 2) (by decide) (by decide) (by decide) (by decide) (by decide) (by decide) (by decide)]
  have s2 : std (addX 5 (mwr (mwr (mwr (mwr X 54 5 (nI (n + 1))) 35 n v0) 36 n v1) 37 n v2)) 2 = cnt (addX 5 (mwr (mwr (mwr (mwr X 54 5 (nI (n + 1))) 35 n v0) 36 n v1) 37 n v2)) 2 := by rw [c2, ← h.2.2.2.2.1]; unfold std; rw [zr 54 (by decide) (by decide) (by decide), mwr_r _ _ _ _ (by decide), mwr_r _ _ _ _ (by decide), mwr_r _ _ _ _ (by decide), mwr_q _ _ _ _ (by decide)]
  have hB : BX (addX 5 (mwr (mwr (mwr (mwr X 54 5 (nI (n + 1))) 35 n v0) 36 n v1) 37 n v2)) := BX_q5 h.1 (fun r g => zx r (by omega) (by omega) (by omega) (by omega) (by omega) (by omega) (by omega)) (fun p g => by rw [hZ, mwr_r _ _ _ _ (by decide), mwr_q _ _ _ _ g, mwr_r _ _ _ _ (by decide), mwr_r _ _ _ _ (by decide), mwr_r _ _ _ _ (by decide), mwr_r _ _ _ _ (by decide), mwr_r _ _ _ _ (by decide)]) (fun p g => by rw [zr 54 (by decide) (by decide) (by decide), mwr_r _ _ _ _ (by decide), mwr_r _ _ _ _ (by decide), mwr_r _ _ _ _ (by decide), mwr_q _ _ _ _ g]) (by rw [hZ, mwr_s]; exact bd_n (by omega)) hLZ (sZ.trans cZ.symm)
  refine ⟨hcb, hL, cY, sY, he, hLZ, cZ, XY_nt h hB (fun j hj => ?_) (by rw [zx 10 (by decide) (by decide) (by decide) (by decide) (by decide) (by decide) (by decide), hr 10 (by decide) (by decide) (by decide) (by decide)]; exact h.2.2.1) (fun i hi => ?_) s2 (fun r g => zx r (by omega) (by omega) (by omega) (by omega) (by omega) (by omega) (by omega)) ⟨hr 0 (by decide) (by decide) (by decide) (by decide), hr 1 (by decide) (by decide) (by decide) (by decide)⟩⟩
  · have hx := h.2.1 j hj
    unfold cj at hj
    funext u
    rw [hZ]
    unfold mwr
    rw [if_neg (show ¬ (j = 50 ∧ u = 5) by omega), if_neg (show ¬ (j = 49 ∧ u = 5) by omega), if_neg (show ¬ (j = 54 ∧ u = 5) by omega), hx]
  · rw [c2] at hi
    rw [zx 11 (by decide) (by decide) (by decide) (by decide) (by decide) (by decide) (by decide), zx 12 (by decide) (by decide) (by decide) (by decide) (by decide) (by decide) (by decide), hr 11 (by decide) (by decide) (by decide) (by decide), hr 12 (by decide) (by decide) (by decide) (by decide)]
    exact h.2.2.2.1 i hi
theorem XY_dn5 {G X : xSt} (h : XY G X) {j : Nat} (hj : j ≤ cnt X 5) : LQ (mwr (mwr (mwr X 49 5 (X 49 5 + nI 1)) 34 0 (nI j)) 54 5 (nI j)) 5 ∧ cnt (mwr (mwr (mwr X 49 5 (X 49 5 + nI 1)) 34 0 (nI j)) 54 5 (nI j)) 5 = j ∧ XY (mwr G 34 0 (nI j)) (mwr (mwr (mwr X 49 5 (X 49 5 + nI 1)) 34 0 (nI j)) 54 5 (nI j)) := by
  have hc8 : cnt X 5 ≤ 8 := (bd_v h.1.2.2.2.2.2.2.2.2.2.2.2.2.2 (by decide)).2
  have zx : ∀ r, r ≠ 49 → r ≠ 34 → r ≠ 54 → (mwr (mwr (mwr X 49 5 (X 49 5 + nI 1)) 34 0 (nI j)) 54 5 (nI j)) r = X r := fun r a b c => by rw [mwr_R _ _ _ c, mwr_R _ _ _ b, mwr_R _ _ _ a]
  have hr : ∀ r, r ≠ 34 → (mwr G 34 0 (nI j)) r = G r := fun r a => mwr_R _ _ _ a
  have zs : (mwr (mwr (mwr X 49 5 (X 49 5 + nI 1)) 34 0 (nI j)) 54 5 (nI j)) 34 0 = nI j := by rw [mwr_r _ _ _ _ (by decide), mwr_s]
  have cZ : cnt (mwr (mwr (mwr X 49 5 (X 49 5 + nI 1)) 34 0 (nI j)) 54 5 (nI j)) 5 = j := cnt_of (q := 5) zs (by omega)
  have sZ : std (mwr (mwr (mwr X 49 5 (X 49 5 + nI 1)) 34 0 (nI j)) 54 5 (nI j)) 5 = j := by unfold std; rw [mwr_s]; exact vN_nI (by omega)
  have L0 := h.1.2.1 5 (by decide)
  have hLZ : LQ (mwr (mwr (mwr X 49 5 (X 49 5 + nI 1)) 34 0 (nI j)) 54 5 (nI j)) 5 := ⟨by decide, by rw [cZ]; exact zs, by rw [cZ]; omega, fun z => by rw [cZ]; rw [zx 50 (by decide) (by decide) (by decide)] at z; have := L0.2.2.2 z; omega⟩
  have c2 : cnt (mwr (mwr (mwr X 49 5 (X 49 5 + nI 1)) 34 0 (nI j)) 54 5 (nI j)) 2 = cnt X 2 := by unfold cnt; rw [zx (szr 2) (by decide) (by decide) (by decide)]
  have s2 : std (mwr (mwr (mwr X 49 5 (X 49 5 + nI 1)) 34 0 (nI j)) 54 5 (nI j)) 2 = cnt (mwr (mwr (mwr X 49 5 (X 49 5 + nI 1)) 34 0 (nI j)) 54 5 (nI j)) 2 := by rw [c2, ← h.2.2.2.2.1]; unfold std; rw [mwr_q _ _ _ _ (by decide), mwr_r _ _ _ _ (by decide), mwr_r _ _ _ _ (by decide)]
  have hB : BX (mwr (mwr (mwr X 49 5 (X 49 5 + nI 1)) 34 0 (nI j)) 54 5 (nI j)) := BX_q5 h.1 (fun r g => zx r (by omega) (by omega) (by omega)) (fun p _ => by rw [zx 50 (by decide) (by decide) (by decide)]) (fun p g => by rw [mwr_q _ _ _ _ g, mwr_r _ _ _ _ (by decide), mwr_r _ _ _ _ (by decide)]) (by rw [zs]; exact bd_n (by omega)) hLZ (by rw [cZ, sZ])
  refine ⟨hLZ, cZ, XY_nt h hB (fun r g => ?_) (by rw [zx 10 (by decide) (by decide) (by decide), hr 10 (by decide)]; exact h.2.2.1) (fun i hi => ?_) s2 (fun r g => zx r (by omega) (by omega) (by omega)) ⟨hr 0 (by decide), hr 1 (by decide)⟩⟩
  · have hx := h.2.1 r g
    unfold cj at g
    funext u
    unfold mwr
    rw [if_neg (show ¬ (r = 54 ∧ u = 5) by omega), if_neg (show ¬ (r = 49 ∧ u = 5) by omega), hx]
  · rw [c2] at hi
    rw [zx 11 (by decide) (by decide) (by decide), zx 12 (by decide) (by decide) (by decide), hr 11 (by decide), hr 12 (by decide)]
    exact h.2.2.2.1 i (by omega)
