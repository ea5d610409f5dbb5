/-! texts: read whole -/
set_option maxRecDepth 100000
theorem wX_drop {Y : xSt} {q : Nat} (hq : q < 6) {m : Nat} {c : xC} (h : wX (mwr Y 54 q (nI 0)) m = some c) : wX Y m = some c := by
  by_cases hb : 1088 + 64 * q ≤ m ∧ m < 1152 + 64 * q
  · exfalso
    obtain ⟨d, rfl⟩ : ∃ d, m = 1088 + 64 * q + d := ⟨m - (1088 + 64 * q), by omega⟩
    have hs : std (mwr Y 54 q (nI 0)) q = 0 := by unfold std; rw [mwr_s]; exact vN_nI (by decide)
    match q, hq, h, hb, hs with
    | 0, _, h, hb, hs => rw [wX_per0 _ (by omega) (by omega)] at h; cases h
    | 1, _, h, hb, hs => rw [wX_pro0 _ (by omega) (by omega)] at h; cases h
    | 2, _, h, hb, hs => rw [wX_ke0 _ (by omega) (by omega)] at h; cases h
    | 3, _, h, hb, hs => rw [wX_ly0 _ (by omega) (by omega)] at h; cases h
    | 4, _, h, hb, hs => rw [wX_lt0 _ (by omega) (by omega)] at h; cases h
    | 5, _, h, hb, hs => rw [wX_sn0 _ (by omega) (by omega)] at h; cases h
    | q + 6, hq, _, _, _ => exact absurd hq (by omega)
  · rw [wX_mwr (by rw [dep_54]; exact hb)] at h
    exact h
section T5
variable {l : Launch} {M : xM} {pc : Nat} {ls : List (Option Value)} {st : List Value} {X : xSt} {k n : Nat} {d0 c0 s0 index q : Nat} {F0 : Nat → Prop} {Q0 : Option Value → xW → Prop} {X0 : String → Nat → xW → Prop}
/-- list.clear() beside a cell of no matter -/
theorem V_clearT {a : Nat} {c : xC} (ha : 1536 ≤ a) (hL : LQ X q) (hd : decode M.2.1 pc = .ok (.invokevirtual index, 3)) (hG : GoodIn lw_all (wsV M.1 index RJ2 yJ2_clear (ws_ yJ2_clear cJ2_clear 4 none))) (hcat : (st.map fun v => v.category).sum ≤ 8) (hR : 1 ≤ d0)
    (kk : V l M (rmD d0 c0 s0, F0, Q0, X0) (pc + 3) ls st (upw (wX (clX q X)) a c) k n) : V l M (rmD d0 c0 s0, F0, Q0, X0) pc ls (.ref (192 + q) :: st) (upw (wX X) a c) k n := by
  have hq := hL.1
  by_cases h0 : X 50 q = 0
  · have hb : upw (wX X) a c (192 + q) = some (liC (X 49 q) 904 (nI 0)) := (upw_ne (by omega)).trans (LQ_li0 hL h0)
    refine Vr_v (j_clear0 l hb) hd hG hv_J2_clear (by omega) hb cl_J2 rfl rfl hcat (fun _ h => h.elim) (fun _ _ => xok0) (fun _ _ => xok0) ⟨Nat.le_of_eq (Nat.zero_add _), Nat.le_of_eq (Nat.zero_add _)⟩ ?_
    rw [upw_comm (by omega)]
    refine V_w (w2 := upw (wX (clX q X)) a c) (congrArg (fun z => upw z a c) (wX_up (clX_li hq |>.trans (by rw [if_pos h0])) fun n e => ?_)) kk
    by_cases e2 : n = 256 + q
    · subst e2
      rw [wX_da0 X hq h0]
      refine wX_da0 _ hq ?_
      have := @szr_b q
      unfold clX
      rw [mwr_r _ _ _ _ (by omega), mwr_r _ _ _ _ (by decide)]
      exact h0
    · exact clX_w hq e e2
  · have hb : upw (wX X) a c (192 + q) = some (liC (X 49 q) (256 + q) (nI (cnt X q))) := (upw_ne (by omega)).trans (LQ_li1 hL h0)
    refine Vr_v (j_clearN l hb ((upw_ne (by omega)).trans (wX_da X ⟨hq, h0⟩)) (by omega) hL.2.2.1) hd hG hv_J2_clear (by omega) hb cl_J2 rfl rfl hcat (fun _ h => h.elim) (fun _ _ => xok0) (fun _ _ => xok0) ⟨Nat.le_of_eq (Nat.zero_add _), Nat.le_of_eq (Nat.zero_add _)⟩ ?_
    rw [upw_comm (a := a) (by omega), upw_comm (a := a) (by omega), wX_li2 (X' := clX q X) hq ((clX_li hq).trans (by rw [if_neg h0])) ((clX_da hq h0 (by decide)).trans ?_) (fun n e1 e2 => clX_w hq e1 e2)]
    · exact kk
    · congr 4
      funext i
      unfold nul
      dsimp only
      by_cases z : i < cnt X q
      · rw [if_neg (Nat.not_lt_zero i), if_pos z]
      · rw [if_neg (Nat.not_lt_zero i), if_neg z, if_neg z]
end T5
theorem clX_o {q : Nat} (X : xSt) {r i : Nat} (h1 : ¬ (r = 49 ∧ i = q)) (h3 : ¬ (r = szr q ∧ i = 0)) : clX q X r i = X r i := by
  unfold clX mwr
  rw [if_neg h3, if_neg h1]
theorem clX_sz (q : Nat) (X : xSt) : clX q X (szr q) 0 = nI 0 := mwr_s _ _ _ _
theorem tbF_c {S X : xSt} (h0 : S 0 = X 0) (h1 : S 1 = X 1) (t : Nat) : tbF S t = tbF X t := funext fun k => tbF_of h0 h1 t k
/-- only text 0's own numbers differ -/
def FR0 (X Y : xSt) : Prop := (∀ r, r ≠ 2 → r ≠ 3 → r ≠ 4 → r ≠ 46 → r ≠ 49 → r ≠ 50 → r ≠ 54 → Y r = X r) ∧ ∀ r i, i ≠ 0 → (r = 46 ∨ r = 49 ∨ r = 50 ∨ r = 54) → Y r i = X r i
def AG0 (n : Nat) (S X : xSt) : Prop := S 0 = X 0 ∧ S 1 = X 1 ∧ S 2 0 = nI 0 ∧ ∀ k, k < n → S 3 k = X 3 k ∧ S 4 k = X 4 k
/-- what a reading of text 0 leaves -/
def FQ0 (X : xSt) (r : Int32) (Y : xSt) : Prop := r = (partsF0 X).1 ∧ Y 2 0 = (partsF0 X).2 2 0 ∧ (∀ k, k < cnt Y 0 → Y 3 k = (partsF0 X).2 3 k ∧ Y 4 k = (partsF0 X).2 4 k) ∧ std Y 0 = cnt Y 0 ∧ LQ Y 0 ∧ cnt Y 0 ≤ 8 ∧ FR0 X Y
theorem FR0.rf (X : xSt) : FR0 X X := ⟨fun _ _ _ _ _ _ _ _ => rfl, fun _ _ _ _ => rfl⟩
theorem FR0.tr {X Y Z : xSt} (h : FR0 X Y) (g : FR0 Y Z) : FR0 X Z := ⟨fun r a0 a1 a2 a3 a4 a5 a6 => (g.1 r a0 a1 a2 a3 a4 a5 a6).trans (h.1 r a0 a1 a2 a3 a4 a5 a6), fun r i hi hr => (g.2 r i hi hr).trans (h.2 r i hi hr)⟩
theorem FR0.wr {X : xSt} {j i : Nat} {v : Int32} (h : (j = 2 ∨ j = 3 ∨ j = 4) ∨ ((j = 46 ∨ j = 49 ∨ j = 50 ∨ j = 54) ∧ i = 0)) : FR0 X (mwr X j i v) := ⟨fun r a0 a1 a2 a3 a4 a5 a6 => mwr_R _ _ _ (by omega), fun r i2 hi hr => by
  unfold mwr
  exact if_neg (fun z => by omega)⟩
theorem FR0.cb {X Y : xSt} (h : FR0 X Y) (hX : CB X) (hc : cnt Y 0 ≤ 10) : CB Y := by
  have e : ∀ q, q < 6 → q ≠ 0 → cnt Y q = cnt X q := fun q hq ht => by
    unfold cnt
    match q, hq, ht with
    | 0, _, ht => exact absurd rfl ht
    | 1, _, _ => rw [h.1 (szr 1) (by decide) (by decide) (by decide) (by decide) (by decide) (by decide) (by decide)]
    | 2, _, _ => rw [h.1 (szr 2) (by decide) (by decide) (by decide) (by decide) (by decide) (by decide) (by decide)]
    | 3, _, _ => rw [h.1 (szr 3) (by decide) (by decide) (by decide) (by decide) (by decide) (by decide) (by decide)]
    | 4, _, _ => rw [h.1 (szr 4) (by decide) (by decide) (by decide) (by decide) (by decide) (by decide) (by decide)]
    | 5, _, _ => rw [h.1 (szr 5) (by decide) (by decide) (by decide) (by decide) (by decide) (by decide) (by decide)]
    | q + 6, hq, _ => exact absurd hq (by omega)
  refine ⟨fun q hq => ?_, ?_⟩
  · by_cases e2 : q = 0
    · rw [e2]; exact hc
    · rw [e q hq e2]; exact hX.1 q hq
  · rw [e 2 (by decide) (by decide)]; exact hX.2
def cd0 (X : xSt) : xSt := mwr (clX 0 X) 54 0 (nI 0)
theorem cd0_fr (X : xSt) : FR0 X (cd0 X) := by
  refine FR0.tr (Y := clX 0 X) ?_ (FR0.wr (.inr ⟨.inr (.inr (.inr rfl)), rfl⟩))
  exact FR0.tr (FR0.wr (X := X) (j := 49) (i := 0) (v := X 49 0 + nI 1) (.inr ⟨.inr (.inl rfl), rfl⟩)) (FR0.wr (j := 2) (.inl (.inl rfl)))
theorem cd0_s (X : xSt) : cd0 X 2 0 = nI 0 ∧ cnt (cd0 X) 0 = 0 ∧ std (cd0 X) 0 = 0 := by
  have h : cd0 X 2 0 = nI 0 := (mwr_r _ _ _ _ (by decide)).trans (clX_sz 0 X)
  refine ⟨h, cnt_of (q := 0) h (by decide), ?_⟩
  unfold std cd0
  rw [mwr_s]
  exact vN_nI (by decide)
theorem cd0_L {X : xSt} : LQ (cd0 X) 0 := by
  obtain ⟨a, b, -⟩ := cd0_s X
  exact ⟨by decide, by rw [b]; exact a, by omega, fun _ => b⟩
theorem cd0_F {X0 X : xSt} (h : FR0 X0 X) {r : Int32} (h1 : r = (partsF0 X0).1) (h2 : (partsF0 X0).2 2 0 = nI 0) : FQ0 X0 r (cd0 X) := by
  obtain ⟨a, b, c⟩ := cd0_s X
  exact ⟨h1, a.trans h2.symm, fun k hk => absurd hk (by omega), by omega, cd0_L, by omega, h.tr (cd0_fr X)⟩
theorem rdP_c {n a : Nat} {S X : xSt} (h0 : S 0 = X 0) (h1 : S 1 = X 1) (hn : n ≤ 8) : (rdP n a S).1 = (rdP n a X).1 ∧ (¬ nI 2 ≤ (rdP n a X).1 → (rdP n a S).2 = S) ∧ (nI 2 ≤ (rdP n a X).1 → n < 8 ∧ ¬ pas 2 (tbF X 0 (a + 1)) = -1 ∧ (rdP n a S).2 = mwr (mwr S 3 n (sortI (tbF X 0 a))) 4 n (pas 2 (tbF X 0 (a + 1))) ∧ (rdP n a X).2 = mwr (mwr X 3 n (sortI (tbF X 0 a))) 4 n (pas 2 (tbF X 0 (a + 1)))) := by
  by_cases hc : n = 8
  · rw [show rdP n a S = (nI 0, S) from if_pos hc, show rdP n a X = (nI 0, X) from if_pos hc]
    exact ⟨rfl, fun _ => rfl, fun z => absurd (show nI 2 ≤ nI 0 from z) (by decide +kernel)⟩
  have hn2 : n < 8 := by omega
  have ht := tbF_c h0 h1 0
  have gS := rdP_g (a := a) S hn2
  rw [ht] at gS
  rcases rdP_g (a := a) X hn2 with ⟨z0, e⟩ | ⟨z0, z1, e⟩ | ⟨z0, z1, e⟩
  · rcases gS with ⟨y0, eS⟩ | ⟨y0, y1, eS⟩ | ⟨y0, y1, eS⟩
    · rw [e, eS]; exact ⟨rfl, fun _ => rfl, fun z => absurd (show nI 2 ≤ nI 0 from z) (by decide +kernel)⟩
    · exact absurd z0 y0
    · exact absurd z0 y0
  · rcases gS with ⟨y0, eS⟩ | ⟨y0, y1, eS⟩ | ⟨y0, y1, eS⟩
    · exact absurd y0 z0
    · rw [e, eS]; exact ⟨rfl, fun _ => rfl, fun z => absurd (show nI 2 ≤ nI 1 from z) (by decide +kernel)⟩
    · exact absurd z1 y1
  · rcases gS with ⟨y0, eS⟩ | ⟨y0, y1, eS⟩ | ⟨y0, y1, eS⟩
    · exact absurd y0 z0
    · exact absurd y1 z1
    · rw [e, eS]; exact ⟨rfl, fun z => absurd (Int32.le_refl (nI 2)) z, fun _ => ⟨hn2, z1, rfl, rfl⟩⟩
theorem nx0_step {X0 X S : xSt} {n a T : Nat} (h : TX X 0 23 n a T) (hL : LQ X 0) (hA : AG0 n S X) (hF : FR0 X0 X) (hn : n ≤ 8) (hg : nI 2 ≤ (rdP n a X).1) : TX (nxX0 n a X) 0 23 (n + 1) (a + 2) T ∧ LQ (nxX0 n a X) 0 ∧ AG0 (n + 1) (rdP n a S).2 (nxX0 n a X) ∧ FR0 X0 (nxX0 n a X) ∧ n < 8 := by
  obtain ⟨h1, h2, h3, h4, h5, h6, h7, h8⟩ := id h
  obtain ⟨g1, g2, g3⟩ := rdP_c (a := a) hA.1 hA.2.1 hn
  obtain ⟨k1, k2, k3, k4⟩ := g3 hg
  have hat := pas_lt (by decide) h3 (show a + 1 ≤ T by
    by_cases z : a + 1 ≤ T
    · exact z
    · exfalso
      apply k2
      rw [show tbF X 0 (a + 1) = -1 from if_pos (by rw [h3]; exact nI_le (by omega) (by omega))]
      exact pas_m1 _ (by decide)) (by omega) k2
  have hcn : cnt (nxY0 n a X) 0 = n := by unfold cnt at *; rw [nxY0_s 0]; exact h7
  have hfy : FR0 X (nxY0 n a X) := by
    unfold nxY0
    rw [k4]
    exact FR0.tr (FR0.tr (FR0.tr (FR0.wr (X := X) (j := 3) (.inl (.inr (by simp)))) (FR0.wr (j := 4) (.inl (.inr (by simp))))) (FR0.wr (j := 46) (.inr ⟨.inl rfl, rfl⟩))) (FR0.wr (j := 54) (.inr ⟨.inr (.inr (.inr rfl)), rfl⟩))
  have hfx : FR0 (nxY0 n a X) (nxX0 n a X) := by
    unfold nxX0 addX
    exact FR0.tr (FR0.tr (FR0.wr (j := 49) (.inr ⟨.inr (.inl rfl), rfl⟩)) (FR0.wr (j := 50) (.inr ⟨.inr (.inr (.inl rfl)), rfl⟩))) (FR0.wr (j := 2) (.inl (.inl rfl)))
  have hfr := hfy.tr hfx
  have hcx : nxX0 n a X 2 0 = nI (n + 1) := by
    unfold nxX0
    rw [show (2 : Nat) = szr 0 from rfl, addX_sz, hcn]
  have hcx2 : cnt (nxX0 n a X) 0 = n + 1 := cnt_of (q := 0) hcx (by omega)
  have e0 : nxX0 n a X 0 = X 0 := hfr.1 0 (by decide) (by decide) (by decide) (by decide) (by decide) (by decide) (by decide)
  have e1 : nxX0 n a X 1 = X 1 := hfr.1 1 (by decide) (by decide) (by decide) (by decide) (by decide) (by decide) (by decide)
  have ex : ∀ r i, r ≠ 2 → r ≠ 49 → r ≠ 50 → nxX0 n a X r i = nxY0 n a X r i := fun r i a1 a2 a3 => by
    unfold nxX0
    exact addX_o _ (fun z => a2 z.1) (fun z => a3 z.1) (fun z => a1 z.1)
  refine ⟨⟨hfr.cb h1 (by omega), ?_, by rw [e0]; exact h3, by omega, h5, fun j hj => by rw [e1]; exact h6 j hj, hcx2, ?_⟩, ⟨by decide, ?_, by omega, fun z => ?_⟩, ⟨?_, ?_, ?_, fun k hk => ?_⟩, hF.tr hfr, k1⟩
  · rw [ex 46 0 (by decide) (by decide) (by decide)]
    unfold nxY0
    rw [mwr_r _ _ _ _ (by decide), mwr_s]
  · unfold std
    rw [ex 54 0 (by decide) (by decide) (by decide)]
    unfold nxY0
    rw [mwr_s]
    exact vN_nI (by omega)
  · rw [show szr 0 = 2 from rfl, hcx, hcx2]
  · unfold nxX0 at z
    rw [addX_50] at z
    exact absurd z nI1_0
  · rw [k3, e0, mwr_R _ _ _ (by decide), mwr_R _ _ _ (by decide)]
    exact hA.1
  · rw [k3, e1, mwr_R _ _ _ (by decide), mwr_R _ _ _ (by decide)]
    exact hA.2.1
  · rw [k3, mwr_R _ _ _ (by decide), mwr_R _ _ _ (by decide)]
    exact hA.2.2.1
  · rw [k3, ex 3 k (by decide) (by decide) (by decide), ex 4 k (by decide) (by decide) (by decide)]
    unfold nxY0
    rw [k4]
    by_cases e : k = n
    · rw [e]
      exact ⟨by rw [mwr_r _ _ _ _ (by decide), mwr_s, mwr_r _ _ _ _ (by decide), mwr_r _ _ _ _ (by decide), mwr_r _ _ _ _ (by decide), mwr_s], by rw [mwr_s, mwr_r _ _ _ _ (by decide), mwr_r _ _ _ _ (by decide), mwr_s]⟩
    · have hk2 := hA.2.2.2 k (by omega)
      exact ⟨by rw [mwr_r _ _ _ _ (by decide), mwr_q _ _ _ _ e, mwr_r _ _ _ _ (by decide), mwr_r _ _ _ _ (by decide), mwr_r _ _ _ _ (by decide), mwr_q _ _ _ _ e]; exact hk2.1, by rw [mwr_q _ _ _ _ e, mwr_r _ _ _ _ (by decide), mwr_r _ _ _ _ (by decide), mwr_r _ _ _ _ (by decide), mwr_q _ _ _ _ e, mwr_r _ _ _ _ (by decide)]; exact hk2.2⟩
/-- only text 1's own numbers differ -/
def FR1 (X Y : xSt) : Prop := (∀ r, r ≠ 5 → r ≠ 6 → r ≠ 7 → r ≠ 8 → r ≠ 9 → r ≠ 46 → r ≠ 49 → r ≠ 50 → r ≠ 54 → Y r = X r) ∧ ∀ r i, i ≠ 1 → (r = 46 ∨ r = 49 ∨ r = 50 ∨ r = 54) → Y r i = X r i
def AG1 (n : Nat) (S X : xSt) : Prop := S 0 = X 0 ∧ S 1 = X 1 ∧ S 5 0 = nI 0 ∧ ∀ k, k < n → S 6 k = X 6 k ∧ S 7 k = X 7 k ∧ S 8 k = X 8 k ∧ S 9 k = X 9 k
/-- what a reading of text 1 leaves -/
def FQ1 (X : xSt) (r : Int32) (Y : xSt) : Prop := r = (partsF1 X).1 ∧ Y 5 0 = (partsF1 X).2 5 0 ∧ (∀ k, k < cnt Y 1 → Y 6 k = (partsF1 X).2 6 k ∧ Y 7 k = (partsF1 X).2 7 k ∧ Y 8 k = (partsF1 X).2 8 k ∧ Y 9 k = (partsF1 X).2 9 k) ∧ std Y 1 = cnt Y 1 ∧ LQ Y 1 ∧ cnt Y 1 ≤ 10 ∧ FR1 X Y
theorem FR1.rf (X : xSt) : FR1 X X := ⟨fun _ _ _ _ _ _ _ _ _ _ => rfl, fun _ _ _ _ => rfl⟩
theorem FR1.tr {X Y Z : xSt} (h : FR1 X Y) (g : FR1 Y Z) : FR1 X Z := ⟨fun r a0 a1 a2 a3 a4 a5 a6 a7 a8 => (g.1 r a0 a1 a2 a3 a4 a5 a6 a7 a8).trans (h.1 r a0 a1 a2 a3 a4 a5 a6 a7 a8), fun r i hi hr => (g.2 r i hi hr).trans (h.2 r i hi hr)⟩
theorem FR1.wr {X : xSt} {j i : Nat} {v : Int32} (h : (j = 5 ∨ j = 6 ∨ j = 7 ∨ j = 8 ∨ j = 9) ∨ ((j = 46 ∨ j = 49 ∨ j = 50 ∨ j = 54) ∧ i = 1)) : FR1 X (mwr X j i v) := ⟨fun r a0 a1 a2 a3 a4 a5 a6 a7 a8 => mwr_R _ _ _ (by omega), fun r i2 hi hr => by
  unfold mwr
  exact if_neg (fun z => by omega)⟩
theorem FR1.cb {X Y : xSt} (h : FR1 X Y) (hX : CB X) (hc : cnt Y 1 ≤ 10) : CB Y := by
  have e : ∀ q, q < 6 → q ≠ 1 → cnt Y q = cnt X q := fun q hq ht => by
    unfold cnt
    match q, hq, ht with
    | 0, _, _ => rw [h.1 (szr 0) (by decide) (by decide) (by decide) (by decide) (by decide) (by decide) (by decide) (by decide) (by decide)]
    | 1, _, ht => exact absurd rfl ht
    | 2, _, _ => rw [h.1 (szr 2) (by decide) (by decide) (by decide) (by decide) (by decide) (by decide) (by decide) (by decide) (by decide)]
    | 3, _, _ => rw [h.1 (szr 3) (by decide) (by decide) (by decide) (by decide) (by decide) (by decide) (by decide) (by decide) (by decide)]
    | 4, _, _ => rw [h.1 (szr 4) (by decide) (by decide) (by decide) (by decide) (by decide) (by decide) (by decide) (by decide) (by decide)]
    | 5, _, _ => rw [h.1 (szr 5) (by decide) (by decide) (by decide) (by decide) (by decide) (by decide) (by decide) (by decide) (by decide)]
    | q + 6, hq, _ => exact absurd hq (by omega)
  refine ⟨fun q hq => ?_, ?_⟩
  · by_cases e2 : q = 1
    · rw [e2]; exact hc
    · rw [e q hq e2]; exact hX.1 q hq
  · rw [e 2 (by decide) (by decide)]; exact hX.2
def cd1 (X : xSt) : xSt := mwr (clX 1 X) 54 1 (nI 0)
theorem cd1_fr (X : xSt) : FR1 X (cd1 X) := by
  refine FR1.tr (Y := clX 1 X) ?_ (FR1.wr (.inr ⟨.inr (.inr (.inr rfl)), rfl⟩))
  exact FR1.tr (FR1.wr (X := X) (j := 49) (i := 1) (v := X 49 1 + nI 1) (.inr ⟨.inr (.inl rfl), rfl⟩)) (FR1.wr (j := 5) (.inl (.inl rfl)))
theorem cd1_s (X : xSt) : cd1 X 5 0 = nI 0 ∧ cnt (cd1 X) 1 = 0 ∧ std (cd1 X) 1 = 0 := by
  have h : cd1 X 5 0 = nI 0 := (mwr_r _ _ _ _ (by decide)).trans (clX_sz 1 X)
  refine ⟨h, cnt_of (q := 1) h (by decide), ?_⟩
  unfold std cd1
  rw [mwr_s]
  exact vN_nI (by decide)
theorem cd1_L {X : xSt} : LQ (cd1 X) 1 := by
  obtain ⟨a, b, -⟩ := cd1_s X
  exact ⟨by decide, by rw [b]; exact a, by omega, fun _ => b⟩
theorem cd1_F {X0 X : xSt} (h : FR1 X0 X) {r : Int32} (h1 : r = (partsF1 X0).1) (h2 : (partsF1 X0).2 5 0 = nI 0) : FQ1 X0 r (cd1 X) := by
  obtain ⟨a, b, c⟩ := cd1_s X
  exact ⟨h1, a.trans h2.symm, fun k hk => absurd hk (by omega), by omega, cd1_L, by omega, h.tr (cd1_fr X)⟩
theorem rdQ_c {n a : Nat} {S X : xSt} (h0 : S 0 = X 0) (h1 : S 1 = X 1) (hn : n ≤ 10) : (rdQ n a S).1 = (rdQ n a X).1 ∧ (¬ nI 4 ≤ (rdQ n a X).1 → (rdQ n a S).2 = S) ∧ (nI 4 ≤ (rdQ n a X).1 → n < 10 ∧ ¬ pas 5 (tbF X 1 (a + 3)) = -1 ∧ (rdQ n a S).2 = mwr (mwr (mwr (mwr S 6 n (pas 3 (tbF X 1 a))) 7 n (nI 1 + pas 4 (tbF X 1 (a + 1)))) 8 n (pas 5 (tbF X 1 (a + 2)))) 9 n (pas 5 (tbF X 1 (a + 3))) ∧ (rdQ n a X).2 = mwr (mwr (mwr (mwr X 6 n (pas 3 (tbF X 1 a))) 7 n (nI 1 + pas 4 (tbF X 1 (a + 1)))) 8 n (pas 5 (tbF X 1 (a + 2)))) 9 n (pas 5 (tbF X 1 (a + 3)))) := by
  by_cases hc : n = 10
  · rw [show rdQ n a S = (nI 0, S) from if_pos hc, show rdQ n a X = (nI 0, X) from if_pos hc]
    exact ⟨rfl, fun _ => rfl, fun z => absurd (show nI 4 ≤ nI 0 from z) (by decide +kernel)⟩
  have hn2 : n < 10 := by omega
  have ht := tbF_c h0 h1 1
  have gS := rdQ_g (a := a) S hn2
  rw [ht] at gS
  rcases rdQ_g (a := a) X hn2 with ⟨z0, e⟩ | ⟨z0, z1, e⟩ | ⟨z0, z1, z2, e⟩ | ⟨z0, z1, z2, z3, e⟩ | ⟨z0, z1, z2, z3, e⟩
  · rcases gS with ⟨y0, eS⟩ | ⟨y0, y1, eS⟩ | ⟨y0, y1, y2, eS⟩ | ⟨y0, y1, y2, y3, eS⟩ | ⟨y0, y1, y2, y3, eS⟩
    · rw [e, eS]; exact ⟨rfl, fun _ => rfl, fun z => absurd (show nI 4 ≤ nI 0 from z) (by decide +kernel)⟩
    · exact absurd z0 y0
    · exact absurd z0 y0
    · exact absurd z0 y0
    · exact absurd z0 y0
  · rcases gS with ⟨y0, eS⟩ | ⟨y0, y1, eS⟩ | ⟨y0, y1, y2, eS⟩ | ⟨y0, y1, y2, y3, eS⟩ | ⟨y0, y1, y2, y3, eS⟩
    · exact absurd y0 z0
    · rw [e, eS]; exact ⟨rfl, fun _ => rfl, fun z => absurd (show nI 4 ≤ nI 1 from z) (by decide +kernel)⟩
    · exact absurd z1 y1
    · exact absurd z1 y1
    · exact absurd z1 y1
  · rcases gS with ⟨y0, eS⟩ | ⟨y0, y1, eS⟩ | ⟨y0, y1, y2, eS⟩ | ⟨y0, y1, y2, y3, eS⟩ | ⟨y0, y1, y2, y3, eS⟩
    · exact absurd y0 z0
    · exact absurd y1 z1
    · rw [e, eS]; exact ⟨rfl, fun _ => rfl, fun z => absurd (show nI 4 ≤ nI 2 from z) (by decide +kernel)⟩
    · exact absurd z2 y2
    · exact absurd z2 y2
  · rcases gS with ⟨y0, eS⟩ | ⟨y0, y1, eS⟩ | ⟨y0, y1, y2, eS⟩ | ⟨y0, y1, y2, y3, eS⟩ | ⟨y0, y1, y2, y3, eS⟩
    · exact absurd y0 z0
    · exact absurd y1 z1
    · exact absurd y2 z2
    · rw [e, eS]; exact ⟨rfl, fun _ => rfl, fun z => absurd (show nI 4 ≤ nI 3 from z) (by decide +kernel)⟩
    · exact absurd z3 y3
  · rcases gS with ⟨y0, eS⟩ | ⟨y0, y1, eS⟩ | ⟨y0, y1, y2, eS⟩ | ⟨y0, y1, y2, y3, eS⟩ | ⟨y0, y1, y2, y3, eS⟩
    · exact absurd y0 z0
    · exact absurd y1 z1
    · exact absurd y2 z2
    · exact absurd y3 z3
    · rw [e, eS]; exact ⟨rfl, fun z => absurd (Int32.le_refl (nI 4)) z, fun _ => ⟨hn2, z3, rfl, rfl⟩⟩
theorem nx1_step {X0 X S : xSt} {n a T : Nat} (h : TX X 1 49 n a T) (hL : LQ X 1) (hA : AG1 n S X) (hF : FR1 X0 X) (hn : n ≤ 10) (hg : nI 4 ≤ (rdQ n a X).1) : TX (nxX1 n a X) 1 49 (n + 1) (a + 4) T ∧ LQ (nxX1 n a X) 1 ∧ AG1 (n + 1) (rdQ n a S).2 (nxX1 n a X) ∧ FR1 X0 (nxX1 n a X) ∧ n < 10 := by
  obtain ⟨h1, h2, h3, h4, h5, h6, h7, h8⟩ := id h
  obtain ⟨g1, g2, g3⟩ := rdQ_c (a := a) hA.1 hA.2.1 hn
  obtain ⟨k1, k2, k3, k4⟩ := g3 hg
  have hat := pas_lt (by decide) h3 (show a + 3 ≤ T by
    by_cases z : a + 3 ≤ T
    · exact z
    · exfalso
      apply k2
      rw [show tbF X 1 (a + 3) = -1 from if_pos (by rw [h3]; exact nI_le (by omega) (by omega))]
      exact pas_m1 _ (by decide)) (by omega) k2
  have hcn : cnt (nxY1 n a X) 1 = n := by unfold cnt at *; rw [nxY1_s 1]; exact h7
  have hfy : FR1 X (nxY1 n a X) := by
    unfold nxY1
    rw [k4]
    exact FR1.tr (FR1.tr (FR1.tr (FR1.tr (FR1.tr (FR1.wr (X := X) (j := 6) (.inl (.inr (by simp)))) (FR1.wr (j := 7) (.inl (.inr (by simp))))) (FR1.wr (j := 8) (.inl (.inr (by simp))))) (FR1.wr (j := 9) (.inl (.inr (by simp))))) (FR1.wr (j := 46) (.inr ⟨.inl rfl, rfl⟩))) (FR1.wr (j := 54) (.inr ⟨.inr (.inr (.inr rfl)), rfl⟩))
  have hfx : FR1 (nxY1 n a X) (nxX1 n a X) := by
    unfold nxX1 addX
    exact FR1.tr (FR1.tr (FR1.wr (j := 49) (.inr ⟨.inr (.inl rfl), rfl⟩)) (FR1.wr (j := 50) (.inr ⟨.inr (.inr (.inl rfl)), rfl⟩))) (FR1.wr (j := 5) (.inl (.inl rfl)))
  have hfr := hfy.tr hfx
  have hcx : nxX1 n a X 5 0 = nI (n + 1) := by
    unfold nxX1
    rw [show (5 : Nat) = szr 1 from rfl, addX_sz, hcn]
  have hcx2 : cnt (nxX1 n a X) 1 = n + 1 := cnt_of (q := 1) hcx (by omega)
  have e0 : nxX1 n a X 0 = X 0 := hfr.1 0 (by decide) (by decide) (by decide) (by decide) (by decide) (by decide) (by decide) (by decide) (by decide)
  have e1 : nxX1 n a X 1 = X 1 := hfr.1 1 (by decide) (by decide) (by decide) (by decide) (by decide) (by decide) (by decide) (by decide) (by decide)
  have ex : ∀ r i, r ≠ 5 → r ≠ 49 → r ≠ 50 → nxX1 n a X r i = nxY1 n a X r i := fun r i a1 a2 a3 => by
    unfold nxX1
    exact addX_o _ (fun z => a2 z.1) (fun z => a3 z.1) (fun z => a1 z.1)
  refine ⟨⟨hfr.cb h1 (by omega), ?_, by rw [e0]; exact h3, by omega, h5, fun j hj => by rw [e1]; exact h6 j hj, hcx2, ?_⟩, ⟨by decide, ?_, by omega, fun z => ?_⟩, ⟨?_, ?_, ?_, fun k hk => ?_⟩, hF.tr hfr, k1⟩
  · rw [ex 46 1 (by decide) (by decide) (by decide)]
    unfold nxY1
    rw [mwr_r _ _ _ _ (by decide), mwr_s]
  · unfold std
    rw [ex 54 1 (by decide) (by decide) (by decide)]
    unfold nxY1
    rw [mwr_s]
    exact vN_nI (by omega)
  · rw [show szr 1 = 5 from rfl, hcx, hcx2]
  · unfold nxX1 at z
    rw [addX_50] at z
    exact absurd z nI1_0
  · rw [k3, e0, mwr_R _ _ _ (by decide), mwr_R _ _ _ (by decide), mwr_R _ _ _ (by decide), mwr_R _ _ _ (by decide)]
    exact hA.1
  · rw [k3, e1, mwr_R _ _ _ (by decide), mwr_R _ _ _ (by decide), mwr_R _ _ _ (by decide), mwr_R _ _ _ (by decide)]
    exact hA.2.1
  · rw [k3, mwr_R _ _ _ (by decide), mwr_R _ _ _ (by decide), mwr_R _ _ _ (by decide), mwr_R _ _ _ (by decide)]
    exact hA.2.2.1
  · rw [k3, ex 6 k (by decide) (by decide) (by decide), ex 7 k (by decide) (by decide) (by decide), ex 8 k (by decide) (by decide) (by decide), ex 9 k (by decide) (by decide) (by decide)]
    unfold nxY1
    rw [k4]
    by_cases e : k = n
    · rw [e]
      exact ⟨by rw [mwr_r _ _ _ _ (by decide), mwr_r _ _ _ _ (by decide), mwr_r _ _ _ _ (by decide), mwr_s, mwr_r _ _ _ _ (by decide), mwr_r _ _ _ _ (by decide), mwr_r _ _ _ _ (by decide), mwr_r _ _ _ _ (by decide), mwr_r _ _ _ _ (by decide), mwr_s], by rw [mwr_r _ _ _ _ (by decide), mwr_r _ _ _ _ (by decide), mwr_s, mwr_r _ _ _ _ (by decide), mwr_r _ _ _ _ (by decide), mwr_r _ _ _ _ (by decide), mwr_r _ _ _ _ (by decide), mwr_s], by rw [mwr_r _ _ _ _ (by decide), mwr_s, mwr_r _ _ _ _ (by decide), mwr_r _ _ _ _ (by decide), mwr_r _ _ _ _ (by decide), mwr_s], by rw [mwr_s, mwr_r _ _ _ _ (by decide), mwr_r _ _ _ _ (by decide), mwr_s]⟩
    · have hk2 := hA.2.2.2 k (by omega)
      exact ⟨by rw [mwr_r _ _ _ _ (by decide), mwr_r _ _ _ _ (by decide), mwr_r _ _ _ _ (by decide), mwr_q _ _ _ _ e, mwr_r _ _ _ _ (by decide), mwr_r _ _ _ _ (by decide), mwr_r _ _ _ _ (by decide), mwr_r _ _ _ _ (by decide), mwr_r _ _ _ _ (by decide), mwr_q _ _ _ _ e]; exact hk2.1, by rw [mwr_r _ _ _ _ (by decide), mwr_r _ _ _ _ (by decide), mwr_q _ _ _ _ e, mwr_r _ _ _ _ (by decide), mwr_r _ _ _ _ (by decide), mwr_r _ _ _ _ (by decide), mwr_r _ _ _ _ (by decide), mwr_r _ _ _ _ (by decide), mwr_q _ _ _ _ e, mwr_r _ _ _ _ (by decide)]; exact hk2.2.1, by rw [mwr_r _ _ _ _ (by decide), mwr_q _ _ _ _ e, mwr_r _ _ _ _ (by decide), mwr_r _ _ _ _ (by decide), mwr_r _ _ _ _ (by decide), mwr_r _ _ _ _ (by decide), mwr_r _ _ _ _ (by decide), mwr_q _ _ _ _ e, mwr_r _ _ _ _ (by decide), mwr_r _ _ _ _ (by decide)]; exact hk2.2.2.1, by rw [mwr_q _ _ _ _ e, mwr_r _ _ _ _ (by decide), mwr_r _ _ _ _ (by decide), mwr_r _ _ _ _ (by decide), mwr_r _ _ _ _ (by decide), mwr_r _ _ _ _ (by decide), mwr_q _ _ _ _ e, mwr_r _ _ _ _ (by decide), mwr_r _ _ _ _ (by decide), mwr_r _ _ _ _ (by decide)]; exact hk2.2.2.2⟩
