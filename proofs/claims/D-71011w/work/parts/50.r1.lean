/-! PromiseTailor's side: what ties its numbers X to the model's T -/
set_option maxRecDepth 100000
theorem i64_le (x y : Int32) : x.toInt64 ≤ y.toInt64 ↔ x ≤ y := by
  rw [Int64.le_iff_toInt_le, Int32.le_iff_toInt_le, Int32.toInt_toInt64, Int32.toInt_toInt64]
theorem i64_in (v lo hi : Int32) : (lo.toInt64 ≤ v.toInt64 ∧ v.toInt64 ≤ hi.toInt64) ↔ (lo ≤ v ∧ v ≤ hi) := by
  rw [i64_le, i64_le]
theorem l64_0 : (0 : Int64) = (nI 0).toInt64 := by decide +kernel
theorem l64_1 : (1 : Int64) = (nI 1).toInt64 := by decide +kernel
theorem l64_23 : (23 : Int64) = (nI 23).toInt64 := by decide +kernel
set_option maxHeartbeats 4000000 in
theorem s_in (l : Launch) (v lo hi : Int64) : Cms l yX0_in cX0_in 6 (some .boolean) 0 [.long v, .long lo, .long hi] (fun r => ∃ x, r = some (.int x) ∧ x = bI (lo ≤ v ∧ v ≤ hi)) := by
  refine Cms_start (ls := [some (.long v), none, some (.long lo), none, some (.long hi), none]) (by decide) rfl (Nat.le_of_ble_eq_true rfl) ?_
  intro w Q hQ
  refine V_lload_n dX0_in_0 rfl ?_
  refine V_lload_n dX0_in_1 rfl ?_
  refine V_lcmp dX0_in_2 ?_
  refine V_if_lt (tgt := 17) dX0_in_3 (by decide) (fun c3 => ?_) (fun c3 => ?_)
  · refine V_iconst dX0_in_17 li_0 ?_
    exact V_zreturn dX0_in_18 rfl (by first | exact bI_nr | exact nr_0 | exact nr_1) (hQ _ ⟨_, rfl, bI_f (fun z => absurd ((lg_cmp_lt _ _).mp c3) (Int64.not_lt.mpr z.1))⟩)
  · refine V_lload_n dX0_in_6 rfl ?_
    refine V_lload dX0_in_7 rfl ?_
    refine V_lcmp dX0_in_9 ?_
    refine V_if_gt (tgt := 17) dX0_in_10 (by decide) (fun c10 => ?_) (fun c10 => ?_)
    · refine V_iconst dX0_in_17 li_0 ?_
      exact V_zreturn dX0_in_18 rfl (by first | exact bI_nr | exact nr_0 | exact nr_1) (hQ _ ⟨_, rfl, bI_f (fun z => absurd ((lg_cmp_gt _ _).mp c10) (Int64.not_lt.mpr z.2))⟩)
    · refine V_iconst dX0_in_13 li_1 ?_
      refine V_goto (tgt := 18) dX0_in_14 (by decide) ?_
      exact V_zreturn dX0_in_18 rfl (by first | exact bI_nr | exact nr_0 | exact nr_1) (hQ _ ⟨_, rfl, bI_t ⟨Int64.not_lt.mp (fun z => c3 ((lg_cmp_lt _ _).mpr z)), Int64.not_lt.mp (fun z => c10 ((lg_cmp_gt _ _).mpr z))⟩⟩)
set_option maxHeartbeats 4000000 in
theorem s_isTwo (l : Launch) (v : Int32) : Cms l yX0_isTwo cX0_isTwo 1 (some .boolean) 1 [.int v] (fun r => ∃ x, r = some (.int x) ∧ x = bI (nI 0 ≤ v ∧ v ≤ nI 1)) := by
  refine Cms_start (ls := [some (.int v)]) (by decide) rfl (Nat.le_of_ble_eq_true rfl) ?_
  intro w Q hQ
  refine V_iload_n dX0_isTwo_0 rfl ?_
  refine V_i2l dX0_isTwo_1 rfl ?_
  refine V_lconst (v := 0) dX0_isTwo_2 (by rfl) ?_
  refine V_lconst (v := 1) dX0_isTwo_3 (by rfl) ?_
  refine Vs_callIF (s_in l v.toInt64 0 1) dX0_isTwo_4 (lw_S q307 q308 q95 q309) hs_X0_in (by decide) rfl (Nat.le_of_ble_eq_true rfl) ?_
  exact V_zreturn dX0_isTwo_7 rfl (by first | exact bI_nr | exact nr_0 | exact nr_1) (hQ _ ⟨_, rfl, bI_iff (by rw [l64_0, l64_1]; exact i64_in _ _ _)⟩)
set_option maxHeartbeats 4000000 in
theorem s_isDay (l : Launch) (v : Int32) : Cms l yX0_isDay cX0_isDay 1 (some .boolean) 1 [.int v] (fun r => ∃ x, r = some (.int x) ∧ x = bI (nI 0 ≤ v ∧ v ≤ nI 23)) := by
  refine Cms_start (ls := [some (.int v)]) (by decide) rfl (Nat.le_of_ble_eq_true rfl) ?_
  intro w Q hQ
  refine V_iload_n dX0_isDay_0 rfl ?_
  refine V_i2l dX0_isDay_1 rfl ?_
  refine V_lconst (v := 0) dX0_isDay_2 (by rfl) ?_
  refine V_ldc2 dX0_isDay_3 q723 ?_
  refine Vs_callIF (s_in l v.toInt64 0 23) dX0_isDay_6 (lw_S q307 q308 q95 q309) hs_X0_in (by decide) rfl (Nat.le_of_ble_eq_true rfl) ?_
  exact V_zreturn dX0_isDay_9 rfl (by first | exact bI_nr | exact nr_0 | exact nr_1) (hQ _ ⟨_, rfl, bI_iff (by rw [l64_0, l64_23]; exact i64_in _ _ _)⟩)
set_option maxHeartbeats 4000000 in
theorem s_isIn (l : Launch) (bits k : Int32) : Cms l yX0_isIn cX0_isIn 2 (some .boolean) 0 [.int bits, .int k] (fun r => ∃ x, r = some (.int x) ∧ x = bI (isI bits k)) := by
  refine Cms_start (ls := [some (.int bits), some (.int k)]) (by decide) rfl (Nat.le_of_ble_eq_true rfl) ?_
  intro w Q hQ
  refine V_iload_n dX0_isIn_0 rfl ?_
  refine V_iload_n dX0_isIn_1 rfl ?_
  refine V_ishr dX0_isIn_2 ?_
  refine V_iconst dX0_isIn_3 li_1 ?_
  refine V_iand dX0_isIn_4 ?_
  refine V_iconst dX0_isIn_5 li_1 ?_
  refine V_icmp_ne (tgt := 13) dX0_isIn_6 (by decide) (fun c6 => ?_) (fun c6 => ?_)
  · refine V_iconst dX0_isIn_13 li_0 ?_
    exact V_zreturn dX0_isIn_14 rfl (by first | exact bI_nr | exact nr_0 | exact nr_1) (hQ _ ⟨_, rfl, bI_f c6⟩)
  · refine V_iconst dX0_isIn_9 li_1 ?_
    refine V_goto (tgt := 14) dX0_isIn_10 (by decide) ?_
    exact V_zreturn dX0_isIn_14 rfl (by first | exact bI_nr | exact nr_0 | exact nr_1) (hQ _ ⟨_, rfl, bI_t c6⟩)
/-- PromiseTailor's numbers in themselves -/
def BX (X : xSt) : Prop := CB X ∧ (∀ q, q < 6 → LQ X q) ∧ bd (X 0 0) 23 ∧ bd (X 0 1) 49 ∧ (∀ i, i < 98 → bd (X 1 i) 255) ∧ (X 47 0 = nI 0 ∨ X 47 0 = nI 1) ∧ (X 47 1 = nI 0 ∨ X 47 1 = nI 1) ∧ (∀ q, q < 6 → q ≠ 2 → std X q = cnt X q) ∧ bd (X 2 0) 8 ∧ bd (X 5 0) 10 ∧ bd (X 10 0) 8 ∧ bd (X 13 0) 6 ∧ bd (X 17 0) 6 ∧ bd (X 34 0) 8
/-- regions that stay the model's own -/
def XC (T X : xSt) : Prop := ∀ j, (j < 2 ∨ (12 < j ∧ j < 21) ∨ (33 < j ∧ j < 38) ∨ (38 < j ∧ j < 43) ∨ j = 44) → X j = T j
/-- a keeping's day, promise -/
def kdX (X : xSt) (i : Nat) : Int32 := if X 53 0 = nI 1 then X 51 (2 * i) else X 11 i
def koX (X : xSt) (i : Nat) : Int32 := if X 53 0 = nI 1 then X 51 (2 * i + 1) else X 12 i
def XK (T X : xSt) : Prop := (∀ i, i < cnt X 2 → T 23 i = kdX X i ∧ T 24 i = koX X i ∧ bd (koX X i) 9) ∧
  ((X 45 0 = -1 ∧ T 22 0 = X 10 0) ∨ (∃ d, d < 24 ∧ X 45 0 = nI d ∧ T 22 0 = nI (cnt X 2 + 1) ∧ T 23 (cnt X 2) = nI d ∧ T 24 (cnt X 2) = X 45 1 ∧ bd (X 45 1) 9 ∧ T 25 0 = nI 0)) ∧ X 25 0 = T 25 0 ∧ X 26 0 = T 26 0 ∧
  ((X 53 0 = nI 0 ∧ std X 2 = cnt X 2) ∨ X 53 0 = nI 1)
def XO (T X : xSt) : Prop := (X 45 2 = -1 ∧ T 21 0 = T 5 0) ∨ (∃ k, k < vN (T 2 0) ∧ X 45 2 = nI k ∧ T 21 0 = nI (vN (T 5 0) + 1) ∧ T 6 (vN (T 5 0)) = nI k ∧ T 7 (vN (T 5 0)) = X 45 3 ∧ T 8 (vN (T 5 0)) = nI 0 ∧ T 9 (vN (T 5 0)) = -1)
theorem XK_of {T X Y : xSt} (h10 : Y 10 = X 10) (h11 : Y 11 = X 11) (h12 : Y 12 = X 12) (h25 : Y 25 = X 25) (h26 : Y 26 = X 26) (h45 : Y 45 = X 45) (h51 : Y 51 = X 51) (h53 : Y 53 = X 53) (h54 : Y 54 2 = X 54 2) (h : XK T X) : XK T Y := by
  have a : cnt Y 2 = cnt X 2 := by unfold cnt; rw [show szr 2 = 10 from rfl, h10]
  have b : ∀ i, kdX Y i = kdX X i := fun i => by unfold kdX; rw [h53, h51, h11]
  have c : ∀ i, koX Y i = koX X i := fun i => by unfold koX; rw [h53, h51, h12]
  have d : std Y 2 = std X 2 := by unfold std; rw [h54]
  unfold XK
  rw [a, d, h10, h25, h26, h45, h53]
  simp only [b, c]
  exact h
theorem XO_of {T X Y : xSt} (h45 : Y 45 = X 45) (h : XO T X) : XO T Y := by
  unfold XO
  rw [h45]
  exact h
theorem LQ_ofp {X Y : xSt} {q : Nat} (h : Y (szr q) = X (szr q)) (h2 : Y 50 q = X 50 q) (hX : LQ X q) : LQ Y q := by
  have e : cnt Y q = cnt X q := by unfold cnt; rw [h]
  unfold LQ
  rw [e, h, h2]
  exact hX
def sy0 (T X : xSt) : Prop := X 2 0 = T 2 0 ∧ ∀ k, k < vN (T 2 0) → X 3 k = T 3 k ∧ X 4 k = T 4 k
def sy1 (T X : xSt) : Prop := X 5 0 = T 5 0 ∧ ∀ k, k < vN (T 5 0) → X 6 k = T 6 k ∧ X 7 k = T 7 k ∧ X 8 k = T 8 k ∧ X 9 k = T 9 k
def pr0 (T : xSt) : Prop := (partsF0 T).2 2 0 = T 2 0 ∧ ∀ k, k < vN (T 2 0) → (partsF0 T).2 3 k = T 3 k ∧ (partsF0 T).2 4 k = T 4 k
def pr1 (T : xSt) : Prop := (partsF1 T).2 5 0 = T 5 0 ∧ ∀ k, k < vN (T 5 0) → (partsF1 T).2 6 k = T 6 k ∧ (partsF1 T).2 7 k = T 7 k ∧ (partsF1 T).2 8 k = T 8 k ∧ (partsF1 T).2 9 k = T 9 k
def fl0 (X : xSt) : Prop := X 47 0 = nI 1 → X 48 0 = (partsF0 X).1
def fl1 (X : xSt) : Prop := X 47 1 = nI 1 → X 48 1 = (partsF1 X).1
/-- bounds of what was read -/
def TB (T : xSt) : Prop := (∀ k, k < vN (T 2 0) → bd (T 3 k) 2 ∧ bd (T 4 k) 9) ∧ ∀ p, p < vN (T 5 0) → bd (T 7 p) 9
def XT (T X : xSt) : Prop := BX X ∧ XC T X ∧ XK T X ∧ XO T X ∧ PV T ∧ TB T ∧ (X 47 0 = nI 1 ∧ sy0 T X ∨ X 47 0 = nI 0 ∧ pr0 T) ∧ (X 47 1 = nI 1 ∧ sy1 T X ∨ X 47 1 = nI 0 ∧ pr1 T) ∧ fl0 X ∧ fl1 X
/-- two readings of one text agree -/
def RG0 (n : Nat) (S X : xSt) : Prop := S 0 = X 0 ∧ S 1 = X 1 ∧ S 2 0 = nI 0 ∧ X 2 0 = nI 0 ∧ ∀ k, k < n → S 3 k = X 3 k ∧ S 4 k = X 4 k
def RE0 (a b : Int32 × xSt) : Prop := a.1 = b.1 ∧ a.2 2 0 = b.2 2 0 ∧ ∀ k, k < vN (b.2 2 0) → a.2 3 k = b.2 3 k ∧ a.2 4 k = b.2 4 k
theorem RE0_0 {a b : Int32 × xSt} (h1 : a.1 = b.1) (h2 : a.2 2 0 = nI 0) (h3 : b.2 2 0 = nI 0) : RE0 a b := ⟨h1, h2.trans h3.symm, fun k hk => absurd hk (by rw [h3, vN_nI (by decide)]; omega)⟩
theorem partF_e0 : ∀ (f n a : Nat) (S X : xSt), n + f = 9 → RG0 n S X → RE0 (partF 0 2 rdP finF0 f n a S) (partF 0 2 rdP finF0 f n a X) := by
  intro f
  induction f with
  | zero =>
    intro n a S X hn h
    exact RE0_0 rfl h.2.2.1 h.2.2.2.1
  | succ f ih =>
    intro n a S X hn h
    have hK : RE0 (partK 0 2 rdP finF0 (partF 0 2 rdP finF0 f) n a S) (partK 0 2 rdP finF0 (partF 0 2 rdP finF0 f) n a X) := by
      obtain ⟨c1, c2, c3⟩ := rdP_c (n := n) (a := a) h.1 h.2.1 (by omega)
      have cX := rdP_c (n := n) (a := a) (S := X) (X := X) rfl rfl (by omega)
      unfold partK
      rw [c1]
      by_cases hg : nI 2 ≤ (rdP n a X).1
      · rw [if_pos hg, if_pos hg]
        obtain ⟨d1, d2, d3, d4⟩ := c3 hg
        have e0 : (rdP n a S).2 0 = (rdP n a X).2 0 := by rw [rdP_fr _ _ _ (by decide), rdP_fr _ _ _ (by decide)]; exact h.1
        have e1 : (rdP n a S).2 1 = (rdP n a X).2 1 := by rw [rdP_fr _ _ _ (by decide), rdP_fr _ _ _ (by decide)]; exact h.2.1
        have e2 : (rdP n a S).2 2 0 = nI 0 := by rw [rdP_fr _ _ _ (by decide)]; exact h.2.2.1
        have e3 : (rdP n a X).2 2 0 = nI 0 := by rw [rdP_fr _ _ _ (by decide)]; exact h.2.2.2.1
        have e4 : ∀ k, k < n + 1 → (rdP n a S).2 3 k = (rdP n a X).2 3 k ∧ (rdP n a S).2 4 k = (rdP n a X).2 4 k := by
          intro k hk
          rw [d3, d4]
          by_cases e : k = n
          · rw [e]
            exact ⟨by rw [mwr_r _ _ _ _ (by decide), mwr_s, mwr_r _ _ _ _ (by decide), mwr_s], by rw [mwr_s, mwr_s]⟩
          · have hk2 := h.2.2.2.2 k (by omega)
            exact ⟨by rw [mwr_r _ _ _ _ (by decide), mwr_q _ _ _ _ e, mwr_r _ _ _ _ (by decide), mwr_q _ _ _ _ e]; exact hk2.1, by rw [mwr_q _ _ _ _ e, mwr_r _ _ _ _ (by decide), mwr_q _ _ _ _ e, mwr_r _ _ _ _ (by decide)]; exact hk2.2⟩
        rw [e0, tbF_c e0 e1]
        by_cases hq : nI (a + 2) = (rdP n a X).2 0 0
        · rw [if_pos hq, if_pos hq]
          have f1 : ∀ S, finF0 (n + 1) S 2 0 = nI (n + 1) := fun S => by unfold finF0; rw [mwr_same, mwr_s]
          refine ⟨rfl, (f1 (rdP n a S).2).trans (f1 (rdP n a X).2).symm, fun k hk => ?_⟩
          rw [show (((-1 : Int32), finF0 (n + 1) (rdP n a X).2) : Int32 × xSt).2 2 0 = nI (n + 1) from f1 (rdP n a X).2, vN_nI (by omega)] at hk
          show finF0 (n + 1) (rdP n a S).2 3 k = finF0 (n + 1) (rdP n a X).2 3 k ∧ finF0 (n + 1) (rdP n a S).2 4 k = finF0 (n + 1) (rdP n a X).2 4 k
          rw [finF0_fr _ _ (show 3 ≠ 2 by decide), finF0_fr _ _ (show 3 ≠ 2 by decide), finF0_fr _ _ (show 4 ≠ 2 by decide), finF0_fr _ _ (show 4 ≠ 2 by decide)]
          exact e4 k hk
        · rw [if_neg hq, if_neg hq]
          by_cases hb : tbF (rdP n a X).2 0 (a + 2) = nI 59
          · rw [if_pos hb, if_pos hb]
            exact ih (n + 1) _ _ _ (by omega) ⟨e0, e1, e2, e3, e4⟩
          · rw [if_neg hb, if_neg hb]
            exact RE0_0 rfl e2 e3
      · rw [if_neg hg, if_neg hg]
        exact RE0_0 rfl (by rw [c2 hg]; exact h.2.2.1) (by rw [cX.2.1 hg]; exact h.2.2.2.1)
    unfold partF
    rw [show S 0 0 = X 0 0 from by rw [h.1]]
    by_cases g : nI a < X 0 0
    · rw [if_pos g, if_pos g]; exact hK
    · rw [if_neg g, if_neg g]
      by_cases g2 : nI a ≤ 0
      · rw [if_pos g2, if_pos g2]; exact RE0_0 rfl h.2.2.1 h.2.2.2.1
      · rw [if_neg g2, if_neg g2]; exact hK
theorem partsF0_e {S X : xSt} (h0 : S 0 = X 0) (h1 : S 1 = X 1) : RE0 (partsF0 S) (partsF0 X) := by
  have f1 : ∀ S, finF0 0 S 2 0 = nI 0 := fun S => by unfold finF0; rw [mwr_same, mwr_s]
  exact partF_e0 9 0 0 _ _ (by decide) ⟨by rw [finF0_fr _ _ (by decide), finF0_fr _ _ (by decide)]; exact h0, by rw [finF0_fr _ _ (by decide), finF0_fr _ _ (by decide)]; exact h1, f1 _, f1 _, fun k hk => absurd hk (by omega)⟩
theorem pr0_c {S T : xSt} (h0 : T 0 = S 0) (h1 : T 1 = S 1) (h2 : T 2 0 = S 2 0) (h3 : ∀ k, k < vN (S 2 0) → T 3 k = S 3 k ∧ T 4 k = S 4 k) (h : pr0 S) : pr0 T := by
  obtain ⟨e1, e2, e3⟩ := partsF0_e h0 h1
  refine ⟨by rw [e2, h2]; exact h.1, fun k hk => ?_⟩
  rw [h2] at hk
  have a := e3 k (by rw [h.1]; exact hk)
  have b := h.2 k hk
  have c := h3 k hk
  exact ⟨(a.1.trans b.1).trans c.1.symm, (a.2.trans b.2).trans c.2.symm⟩
theorem fl0_c {X Y : xSt} (h0 : Y 0 = X 0) (h1 : Y 1 = X 1) (h2 : Y 47 0 = X 47 0) (h3 : Y 48 0 = X 48 0) (h : fl0 X) : fl0 Y := fun z => by
  rw [h3, (partsF0_e h0 h1).1]
  exact h (by rw [← h2]; exact z)
/-- two readings of one text agree -/
def RG1 (n : Nat) (S X : xSt) : Prop := S 0 = X 0 ∧ S 1 = X 1 ∧ S 5 0 = nI 0 ∧ X 5 0 = nI 0 ∧ ∀ k, k < n → S 6 k = X 6 k ∧ S 7 k = X 7 k ∧ S 8 k = X 8 k ∧ S 9 k = X 9 k
def RE1 (a b : Int32 × xSt) : Prop := a.1 = b.1 ∧ a.2 5 0 = b.2 5 0 ∧ ∀ k, k < vN (b.2 5 0) → a.2 6 k = b.2 6 k ∧ a.2 7 k = b.2 7 k ∧ a.2 8 k = b.2 8 k ∧ a.2 9 k = b.2 9 k
theorem RE1_0 {a b : Int32 × xSt} (h1 : a.1 = b.1) (h2 : a.2 5 0 = nI 0) (h3 : b.2 5 0 = nI 0) : RE1 a b := ⟨h1, h2.trans h3.symm, fun k hk => absurd hk (by rw [h3, vN_nI (by decide)]; omega)⟩
theorem partF_e1 : ∀ (f n a : Nat) (S X : xSt), n + f = 11 → RG1 n S X → RE1 (partF 1 4 rdQ finF1 f n a S) (partF 1 4 rdQ finF1 f n a X) := by
  intro f
  induction f with
  | zero =>
    intro n a S X hn h
    exact RE1_0 rfl h.2.2.1 h.2.2.2.1
  | succ f ih =>
    intro n a S X hn h
    have hK : RE1 (partK 1 4 rdQ finF1 (partF 1 4 rdQ finF1 f) n a S) (partK 1 4 rdQ finF1 (partF 1 4 rdQ finF1 f) n a X) := by
      obtain ⟨c1, c2, c3⟩ := rdQ_c (n := n) (a := a) h.1 h.2.1 (by omega)
      have cX := rdQ_c (n := n) (a := a) (S := X) (X := X) rfl rfl (by omega)
      unfold partK
      rw [c1]
      by_cases hg : nI 4 ≤ (rdQ n a X).1
      · rw [if_pos hg, if_pos hg]
        obtain ⟨d1, d2, d3, d4⟩ := c3 hg
        have e0 : (rdQ n a S).2 0 = (rdQ n a X).2 0 := by rw [rdQ_fr _ _ _ (by decide), rdQ_fr _ _ _ (by decide)]; exact h.1
        have e1 : (rdQ n a S).2 1 = (rdQ n a X).2 1 := by rw [rdQ_fr _ _ _ (by decide), rdQ_fr _ _ _ (by decide)]; exact h.2.1
        have e2 : (rdQ n a S).2 5 0 = nI 0 := by rw [rdQ_fr _ _ _ (by decide)]; exact h.2.2.1
        have e3 : (rdQ n a X).2 5 0 = nI 0 := by rw [rdQ_fr _ _ _ (by decide)]; exact h.2.2.2.1
        have e4 : ∀ k, k < n + 1 → (rdQ n a S).2 6 k = (rdQ n a X).2 6 k ∧ (rdQ n a S).2 7 k = (rdQ n a X).2 7 k ∧ (rdQ n a S).2 8 k = (rdQ n a X).2 8 k ∧ (rdQ n a S).2 9 k = (rdQ n a X).2 9 k := by
          intro k hk
          rw [d3, d4]
          by_cases e : k = n
          · rw [e]
            exact ⟨by rw [mwr_r _ _ _ _ (by decide), mwr_r _ _ _ _ (by decide), mwr_r _ _ _ _ (by decide), mwr_s, mwr_r _ _ _ _ (by decide), mwr_r _ _ _ _ (by decide), mwr_r _ _ _ _ (by decide), mwr_s], by rw [mwr_r _ _ _ _ (by decide), mwr_r _ _ _ _ (by decide), mwr_s, mwr_r _ _ _ _ (by decide), mwr_r _ _ _ _ (by decide), mwr_s], by rw [mwr_r _ _ _ _ (by decide), mwr_s, mwr_r _ _ _ _ (by decide), mwr_s], by rw [mwr_s, mwr_s]⟩
          · have hk2 := h.2.2.2.2 k (by omega)
            exact ⟨by rw [mwr_r _ _ _ _ (by decide), mwr_r _ _ _ _ (by decide), mwr_r _ _ _ _ (by decide), mwr_q _ _ _ _ e, mwr_r _ _ _ _ (by decide), mwr_r _ _ _ _ (by decide), mwr_r _ _ _ _ (by decide), mwr_q _ _ _ _ e]; exact hk2.1, by rw [mwr_r _ _ _ _ (by decide), mwr_r _ _ _ _ (by decide), mwr_q _ _ _ _ e, mwr_r _ _ _ _ (by decide), mwr_r _ _ _ _ (by decide), mwr_r _ _ _ _ (by decide), mwr_q _ _ _ _ e, mwr_r _ _ _ _ (by decide)]; exact hk2.2.1, by rw [mwr_r _ _ _ _ (by decide), mwr_q _ _ _ _ e, mwr_r _ _ _ _ (by decide), mwr_r _ _ _ _ (by decide), mwr_r _ _ _ _ (by decide), mwr_q _ _ _ _ e, mwr_r _ _ _ _ (by decide), mwr_r _ _ _ _ (by decide)]; exact hk2.2.2.1, by rw [mwr_q _ _ _ _ e, mwr_r _ _ _ _ (by decide), mwr_r _ _ _ _ (by decide), mwr_r _ _ _ _ (by decide), mwr_q _ _ _ _ e, mwr_r _ _ _ _ (by decide), mwr_r _ _ _ _ (by decide), mwr_r _ _ _ _ (by decide)]; exact hk2.2.2.2⟩
        rw [e0, tbF_c e0 e1]
        by_cases hq : nI (a + 4) = (rdQ n a X).2 0 1
        · rw [if_pos hq, if_pos hq]
          have f1 : ∀ S, finF1 (n + 1) S 5 0 = nI (n + 1) := fun S => by unfold finF1; rw [mwr_s]
          refine ⟨rfl, (f1 (rdQ n a S).2).trans (f1 (rdQ n a X).2).symm, fun k hk => ?_⟩
          rw [show (((-1 : Int32), finF1 (n + 1) (rdQ n a X).2) : Int32 × xSt).2 5 0 = nI (n + 1) from f1 (rdQ n a X).2, vN_nI (by omega)] at hk
          show finF1 (n + 1) (rdQ n a S).2 6 k = finF1 (n + 1) (rdQ n a X).2 6 k ∧ finF1 (n + 1) (rdQ n a S).2 7 k = finF1 (n + 1) (rdQ n a X).2 7 k ∧ finF1 (n + 1) (rdQ n a S).2 8 k = finF1 (n + 1) (rdQ n a X).2 8 k ∧ finF1 (n + 1) (rdQ n a S).2 9 k = finF1 (n + 1) (rdQ n a X).2 9 k
          rw [finF1_fr _ _ (show 6 ≠ 5 by decide), finF1_fr _ _ (show 6 ≠ 5 by decide), finF1_fr _ _ (show 7 ≠ 5 by decide), finF1_fr _ _ (show 7 ≠ 5 by decide), finF1_fr _ _ (show 8 ≠ 5 by decide), finF1_fr _ _ (show 8 ≠ 5 by decide), finF1_fr _ _ (show 9 ≠ 5 by decide), finF1_fr _ _ (show 9 ≠ 5 by decide)]
          exact e4 k hk
        · rw [if_neg hq, if_neg hq]
          by_cases hb : tbF (rdQ n a X).2 1 (a + 4) = nI 59
          · rw [if_pos hb, if_pos hb]
            exact ih (n + 1) _ _ _ (by omega) ⟨e0, e1, e2, e3, e4⟩
          · rw [if_neg hb, if_neg hb]
            exact RE1_0 rfl e2 e3
      · rw [if_neg hg, if_neg hg]
        exact RE1_0 rfl (by rw [c2 hg]; exact h.2.2.1) (by rw [cX.2.1 hg]; exact h.2.2.2.1)
    unfold partF
    rw [show S 0 1 = X 0 1 from by rw [h.1]]
    by_cases g : nI a < X 0 1
    · rw [if_pos g, if_pos g]; exact hK
    · rw [if_neg g, if_neg g]
      by_cases g2 : nI a ≤ 0
      · rw [if_pos g2, if_pos g2]; exact RE1_0 rfl h.2.2.1 h.2.2.2.1
      · rw [if_neg g2, if_neg g2]; exact hK
theorem partsF1_e {S X : xSt} (h0 : S 0 = X 0) (h1 : S 1 = X 1) : RE1 (partsF1 S) (partsF1 X) := by
  have f1 : ∀ S, finF1 0 S 5 0 = nI 0 := fun S => by unfold finF1; rw [mwr_s]
  exact partF_e1 11 0 0 _ _ (by decide) ⟨by rw [finF1_fr _ _ (by decide), finF1_fr _ _ (by decide)]; exact h0, by rw [finF1_fr _ _ (by decide), finF1_fr _ _ (by decide)]; exact h1, f1 _, f1 _, fun k hk => absurd hk (by omega)⟩
theorem pr1_c {S T : xSt} (h0 : T 0 = S 0) (h1 : T 1 = S 1) (h2 : T 5 0 = S 5 0) (h3 : ∀ k, k < vN (S 5 0) → T 6 k = S 6 k ∧ T 7 k = S 7 k ∧ T 8 k = S 8 k ∧ T 9 k = S 9 k) (h : pr1 S) : pr1 T := by
  obtain ⟨e1, e2, e3⟩ := partsF1_e h0 h1
  refine ⟨by rw [e2, h2]; exact h.1, fun k hk => ?_⟩
  rw [h2] at hk
  have a := e3 k (by rw [h.1]; exact hk)
  have b := h.2 k hk
  have c := h3 k hk
  exact ⟨(a.1.trans b.1).trans c.1.symm, (a.2.1.trans b.2.1).trans c.2.1.symm, (a.2.2.1.trans b.2.2.1).trans c.2.2.1.symm, (a.2.2.2.trans b.2.2.2).trans c.2.2.2.symm⟩
theorem fl1_c {X Y : xSt} (h0 : Y 0 = X 0) (h1 : Y 1 = X 1) (h2 : Y 47 1 = X 47 1) (h3 : Y 48 1 = X 48 1) (h : fl1 X) : fl1 Y := fun z => by
  rw [h3, (partsF1_e h0 h1).1]
  exact h (by rw [← h2]; exact z)
