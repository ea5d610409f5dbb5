/-! PromiseTailor's side: isPerson, isPromise; what ties the days -/
set_option maxRecDepth 100000
theorem x_manyT0 (l : Launch) {T X : xSt} (h : XT T X) : Cz l yX1_many (ws_ yX1_many cX1_many 1 (some .int)) 14 (rct 0 X) (rst 0 X) (gF 0 X) [.ref 64] X (fun r X' => ∃ x, r = some (.int x) ∧ x = T 2 0 ∧ XT T X' ∧ X' 47 0 = nI 1 ∧ WR0 X X') := by
  rcases h.2.2.2.2.2.2.1 with z | z
  · rw [show rct 0 X = 0 from if_pos z.1, show rst 0 X = 0 from if_pos z.1]
    exact Cz_q (x_manyf0 l z.1 (h.1.2.1 0 (by decide))) ⟨_, rfl, z.2.1, h, z.1, WR0.rf X⟩
  · have hne : ¬ X 47 0 = nI 1 := by rw [z.1]; decide +kernel
    rw [show rct 0 X = 100 from if_neg hne, show rst 0 X = 700 from if_neg hne]
    refine Cz_imp (x_manyu0 l h.1 z.1) (fun n hn => ⟨hne, hn⟩) fun r X' ⟨x, e1, e2, x2, Y, e3, e4⟩ => ?_
    subst e4
    have h2 := XT_rd0 h z.1 e3
    have h3 : rdn 0 x2 Y 47 0 = nI 1 := mwr_s _ _ _ _
    refine ⟨x, e1, ?_, h2, h3, rdn0_wr e3.2.2.2.2.2.2 z.1⟩
    rw [e2]
    rcases h2.2.2.2.2.2.2.1 with y | y
    · exact y.2.1
    · rw [h3] at y; exact absurd y.1 (by decide +kernel)
set_option maxHeartbeats 4000000 in
theorem x_isPersonF (l : Launch) {X : xSt} (hf : X 47 0 = nI 1) (hL : LQ X 0) (k : Int32) : Cq l yX0_isPerson cX0_isPerson 2 (some .boolean) 15 [.ref 0, .int k] (wX X) (some (.int (bI (nI 0 ≤ k ∧ k ≤ X 2 0 - nI 1)))) := by
  refine Cq_start (ls := [some (.ref 0), some (.int k)]) (by decide) rfl (Nat.le_of_ble_eq_true rfl) ?_
  intro Q hQ
  refine V_iload_n dX0_isPerson_0 rfl ?_
  refine V_i2l dX0_isPerson_1 rfl ?_
  refine V_lconst (v := 0) dX0_isPerson_2 (by rfl) ?_
  refine V_aload_n dX0_isPerson_3 rfl ?_
  refine V_getf (i := 1) k_X0 dX0_isPerson_4 (by decide) q228 (wX_obj _) rfl ?_
  refine Vq_u (x_manyf0 l hf hL) dX0_isPerson_7 (lw_U q658 q659 q661 q662 q96 q663) rfl hs_X1_many (by decide) (.inl ⟨_, _, _, _, (wX_tx0 _), cl_X2, rfl⟩) rfl (Nat.le_of_ble_eq_true rfl) ?_
  refine V_iconst dX0_isPerson_10 li_1 ?_
  refine V_isub dX0_isPerson_11 ?_
  refine V_i2l dX0_isPerson_12 rfl ?_
  refine Vs_callIF (s_in l k.toInt64 0 (X 2 0 - nI 1).toInt64) dX0_isPerson_13 (lw_S q307 q308 q95 q309) hs_X0_in (by decide) rfl (Nat.le_of_ble_eq_true rfl) ?_
  exact V_zreturn dX0_isPerson_16 rfl (by first | exact bI_nr | exact nr_0 | exact nr_1 | rfl) (by rw [bI_iff (show (nI 0 ≤ k ∧ k ≤ X 2 0 - nI 1) ↔ ((0 : Int64) ≤ k.toInt64 ∧ k.toInt64 ≤ (X 2 0 - nI 1).toInt64) from by rw [l64_0]; exact (i64_in _ _ _).symm)] at hQ; exact hQ)
set_option maxHeartbeats 4000000 in
theorem x_isPersonT (l : Launch) {T X : xSt} (h : XT T X) (k : Int32) : Cz l yX0_isPerson (ws_ yX0_isPerson cX0_isPerson 2 (some .boolean)) 15 (rct 0 X) (rst 0 X) (gF 0 X) [.ref 0, .int k] X (fun r X' => ∃ x, r = some (.int x) ∧ x = bI (nI 0 ≤ k ∧ k ≤ T 2 0 - nI 1) ∧ XT T X' ∧ X' 47 0 = nI 1 ∧ WR0 X X') := by
  refine Cz_start (ls := [some (.ref 0), some (.int k)]) (by decide) rfl (Nat.le_of_ble_eq_true rfl) (gF_lo (by decide)) ?_
  intro Q hQ
  refine V_iload_n dX0_isPerson_0 rfl ?_
  refine V_i2l dX0_isPerson_1 rfl ?_
  refine V_lconst (v := 0) dX0_isPerson_2 (by rfl) ?_
  refine V_aload_n dX0_isPerson_3 rfl ?_
  refine V_getf (i := 1) k_X0 dX0_isPerson_4 (by decide) q228 (wX_obj _) rfl ?_
  refine Vz_uI (k' := 0) (n' := 0) (x_manyT0 l h) dX0_isPerson_7 (lw_U q658 q659 q661 q662 q96 q663) rfl hs_X1_many (by decide) (.inl ⟨_, _, _, _, (wX_tx0 _), cl_X2, rfl⟩) rfl (Nat.le_of_ble_eq_true rfl) (fun _ z => z) (okl_c (ok_r (gF_ok (by decide))) (okl_c ok_i okl_0)) (oks_c ok_l (oks_c ok_l oks_0)) ⟨Nat.le_refl _, Nat.le_refl _⟩ (fun x1 X1 h1 => ?_)
  obtain ⟨rfl, h2⟩ := h1
  refine V_iconst dX0_isPerson_10 li_1 ?_
  refine V_isub dX0_isPerson_11 ?_
  refine V_i2l dX0_isPerson_12 rfl ?_
  refine Vs_callIF (s_in l k.toInt64 0 (T 2 0 - nI 1).toInt64) dX0_isPerson_13 (lw_S q307 q308 q95 q309) hs_X0_in (by decide) rfl (Nat.le_of_ble_eq_true rfl) ?_
  exact V_zreturn dX0_isPerson_16 rfl (by first | exact bI_nr | exact nr_0 | exact nr_1 | rfl) (hQ _ _ ⟨_, rfl, bI_iff (by rw [l64_0]; exact i64_in _ _ _), h2⟩)
theorem x_manyT1 (l : Launch) {T X : xSt} (h : XT T X) : Cz l yX1_many (ws_ yX1_many cX1_many 1 (some .int)) 14 (rct 1 X) (rst 1 X) (gF 1 X) [.ref 65] X (fun r X' => ∃ x, r = some (.int x) ∧ x = T 5 0 ∧ XT T X' ∧ X' 47 1 = nI 1 ∧ WR1 X X') := by
  rcases h.2.2.2.2.2.2.2.1 with z | z
  · rw [show rct 1 X = 0 from if_pos z.1, show rst 1 X = 0 from if_pos z.1]
    exact Cz_q (x_manyf1 l z.1 (h.1.2.1 1 (by decide))) ⟨_, rfl, z.2.1, h, z.1, WR1.rf X⟩
  · have hne : ¬ X 47 1 = nI 1 := by rw [z.1]; decide +kernel
    rw [show rct 1 X = 100 from if_neg hne, show rst 1 X = 700 from if_neg hne]
    refine Cz_imp (x_manyu1 l h.1 z.1) (fun n hn => ⟨hne, hn⟩) fun r X' ⟨x, e1, e2, x2, Y, e3, e4⟩ => ?_
    subst e4
    have h2 := XT_rd1 h z.1 e3
    have h3 : rdn 1 x2 Y 47 1 = nI 1 := mwr_s _ _ _ _
    refine ⟨x, e1, ?_, h2, h3, rdn1_wr e3.2.2.2.2.2.2 z.1⟩
    rw [e2]
    rcases h2.2.2.2.2.2.2.2.1 with y | y
    · exact y.2.1
    · rw [h3] at y; exact absurd y.1 (by decide +kernel)
set_option maxHeartbeats 4000000 in
theorem x_isPromiseF (l : Launch) {X : xSt} (hf : X 47 1 = nI 1) (hL : LQ X 1) (k : Int32) : Cq l yX0_isPromise cX0_isPromise 2 (some .boolean) 15 [.ref 0, .int k] (wX X) (some (.int (bI (nI 0 ≤ k ∧ k ≤ X 5 0 - nI 1)))) := by
  refine Cq_start (ls := [some (.ref 0), some (.int k)]) (by decide) rfl (Nat.le_of_ble_eq_true rfl) ?_
  intro Q hQ
  refine V_iload_n dX0_isPromise_0 rfl ?_
  refine V_i2l dX0_isPromise_1 rfl ?_
  refine V_lconst (v := 0) dX0_isPromise_2 (by rfl) ?_
  refine V_aload_n dX0_isPromise_3 rfl ?_
  refine V_getf (i := 2) k_X0 dX0_isPromise_4 (by decide) q229 (wX_obj _) rfl ?_
  refine Vq_u (x_manyf1 l hf hL) dX0_isPromise_7 (lw_U q707 q708 q709 q662 q96 q663) rfl hs_X1_many (by decide) (.inl ⟨_, _, _, _, (wX_tx1 _), cl_X3, rfl⟩) rfl (Nat.le_of_ble_eq_true rfl) ?_
  refine V_iconst dX0_isPromise_10 li_1 ?_
  refine V_isub dX0_isPromise_11 ?_
  refine V_i2l dX0_isPromise_12 rfl ?_
  refine Vs_callIF (s_in l k.toInt64 0 (X 5 0 - nI 1).toInt64) dX0_isPromise_13 (lw_S q307 q308 q95 q309) hs_X0_in (by decide) rfl (Nat.le_of_ble_eq_true rfl) ?_
  exact V_zreturn dX0_isPromise_16 rfl (by first | exact bI_nr | exact nr_0 | exact nr_1 | rfl) (by rw [bI_iff (show (nI 0 ≤ k ∧ k ≤ X 5 0 - nI 1) ↔ ((0 : Int64) ≤ k.toInt64 ∧ k.toInt64 ≤ (X 5 0 - nI 1).toInt64) from by rw [l64_0]; exact (i64_in _ _ _).symm)] at hQ; exact hQ)
set_option maxHeartbeats 4000000 in
theorem x_isPromiseT (l : Launch) {T X : xSt} (h : XT T X) (k : Int32) : Cz l yX0_isPromise (ws_ yX0_isPromise cX0_isPromise 2 (some .boolean)) 15 (rct 1 X) (rst 1 X) (gF 1 X) [.ref 0, .int k] X (fun r X' => ∃ x, r = some (.int x) ∧ x = bI (nI 0 ≤ k ∧ k ≤ T 5 0 - nI 1) ∧ XT T X' ∧ X' 47 1 = nI 1 ∧ WR1 X X') := by
  refine Cz_start (ls := [some (.ref 0), some (.int k)]) (by decide) rfl (Nat.le_of_ble_eq_true rfl) (gF_lo (by decide)) ?_
  intro Q hQ
  refine V_iload_n dX0_isPromise_0 rfl ?_
  refine V_i2l dX0_isPromise_1 rfl ?_
  refine V_lconst (v := 0) dX0_isPromise_2 (by rfl) ?_
  refine V_aload_n dX0_isPromise_3 rfl ?_
  refine V_getf (i := 2) k_X0 dX0_isPromise_4 (by decide) q229 (wX_obj _) rfl ?_
  refine Vz_uI (k' := 0) (n' := 0) (x_manyT1 l h) dX0_isPromise_7 (lw_U q707 q708 q709 q662 q96 q663) rfl hs_X1_many (by decide) (.inl ⟨_, _, _, _, (wX_tx1 _), cl_X3, rfl⟩) rfl (Nat.le_of_ble_eq_true rfl) (fun _ z => z) (okl_c (ok_r (gF_ok (by decide))) (okl_c ok_i okl_0)) (oks_c ok_l (oks_c ok_l oks_0)) ⟨Nat.le_refl _, Nat.le_refl _⟩ (fun x1 X1 h1 => ?_)
  obtain ⟨rfl, h2⟩ := h1
  refine V_iconst dX0_isPromise_10 li_1 ?_
  refine V_isub dX0_isPromise_11 ?_
  refine V_i2l dX0_isPromise_12 rfl ?_
  refine Vs_callIF (s_in l k.toInt64 0 (T 5 0 - nI 1).toInt64) dX0_isPromise_13 (lw_S q307 q308 q95 q309) hs_X0_in (by decide) rfl (Nat.le_of_ble_eq_true rfl) ?_
  exact V_zreturn dX0_isPromise_16 rfl (by first | exact bI_nr | exact nr_0 | exact nr_1 | rfl) (hQ _ _ ⟨_, rfl, bI_iff (by rw [l64_0]; exact i64_in _ _ _), h2⟩)
def FRS (X : xSt) : Prop := X 47 0 = nI 1 ∧ X 47 1 = nI 1
/-- the days' numbers agree -/
def DA (T X : xSt) : Prop := (∀ k, k < vN (T 2 0) → X 27 k = T 27 k ∧ bd (T 27 k) 99 ∧ X 28 k = T 28 k) ∧ (∀ p, p < vN (T 5 0) → X 29 p = T 29 p) ∧ (∀ p, p < vN (T 5 0) → T 29 p = nI 1 → wN T p < vN (T 2 0)) ∧ ∀ e, e < vN (X 55 0) → (∀ k, k < vN (T 2 0) → X 30 (8 * e + k) = T 30 (8 * e + k) ∧ X 31 (8 * e + k) = T 31 (8 * e + k)) ∧ ∀ p, p < vN (T 5 0) → X 32 (12 * e + p) = T 32 (12 * e + p)
/-- all but the days' regions, and the count of days told, is the same -/
def frx (X Y : xSt) : Prop := ∀ r, (r < 27 ∨ (32 < r ∧ r ≠ 55)) → Y r = X r
theorem frx_of {X Y : xSt} (h : fr X Y) : frx X Y := fun r hr => h r (by omega)
theorem frx_tr {X Y Z : xSt} (h : frx X Y) (g : frx Y Z) : frx X Z := fun r hr => (g r hr).trans (h r hr)
theorem frx_rf (X : xSt) : frx X X := fun _ _ => rfl
def RD (T X : xSt) : Prop := XT T X ∧ FRS X ∧ DA T X
theorem BX_fr {X Y : xSt} (h : frx X Y) (hB : BX X) : BX Y := by
  have e : ∀ q, cnt Y q = cnt X q := fun q => by unfold cnt; rw [h _ (by have := @szr_b q; omega)]
  have e2 : ∀ q, std Y q = std X q := fun q => by unfold std; rw [h 54 (by omega)]
  have e3 : ∀ q, Y (szr q) = X (szr q) := fun q => h _ (by have := @szr_b q; omega)
  unfold BX CB at *
  simp only [e, e2]
  refine ⟨hB.1, fun q hq => LQ_of (e3 q) (h 50 (by omega)) (hB.2.1 q hq), ?_⟩
  rw [h 0 (by omega), h 1 (by omega), h 47 (by omega), h 2 (by omega), h 5 (by omega), h 10 (by omega), h 13 (by omega), h 17 (by omega), h 34 (by omega)]
  exact hB.2.2
theorem XT_fr {T T2 X Y : xSt} (hT : fr T T2) (hX : frx X Y) (h : XT T X) : XT T2 Y := by
  obtain ⟨hB, hC, hK, hO, hP, hTB, h0, h1, hl0, hl1⟩ := h
  refine ⟨BX_fr hX hB, fun j hj => by rw [hX j (by omega), hT j (by omega)]; exact hC j hj, ?_, ?_, PV_fr hT hP, ?_, ?_, ?_, fl0_c (hX 0 (by omega)) (hX 1 (by omega)) (by rw [hX 47 (by omega)]) (by rw [hX 48 (by omega)]) hl0, fl1_c (hX 0 (by omega)) (hX 1 (by omega)) (by rw [hX 47 (by omega)]) (by rw [hX 48 (by omega)]) hl1⟩
  · have := XK_of (hX 10 (by omega)) (hX 11 (by omega)) (hX 12 (by omega)) (hX 25 (by omega)) (hX 26 (by omega)) (hX 45 (by omega)) (hX 51 (by omega)) (hX 53 (by omega)) (by rw [hX 54 (by omega)]) hK
    unfold XK at *
    rw [hT 22 (by omega), hT 23 (by omega), hT 24 (by omega), hT 25 (by omega), hT 26 (by omega)]
    exact this
  · have := XO_of (hX 45 (by omega)) hO
    unfold XO at *
    rw [hT 2 (by omega), hT 5 (by omega), hT 21 (by omega), hT 6 (by omega), hT 7 (by omega), hT 8 (by omega), hT 9 (by omega)]
    exact this
  · unfold TB at *
    rw [hT 2 (by omega), hT 5 (by omega), hT 3 (by omega), hT 4 (by omega), hT 7 (by omega)]
    exact hTB
  · rw [hX 47 (by omega)]
    rcases h0 with z | z
    · refine .inl ⟨z.1, ?_⟩
      unfold sy0 at *
      rw [hX 2 (by omega), hX 3 (by omega), hX 4 (by omega), hT 2 (by omega), hT 3 (by omega), hT 4 (by omega)]
      exact z.2
    · exact .inr ⟨z.1, pr0_c (hT 0 (by omega)) (hT 1 (by omega)) (by rw [hT 2 (by omega)]) (fun k _ => by rw [hT 3 (by omega), hT 4 (by omega)]; exact ⟨rfl, rfl⟩) z.2⟩
  · rw [hX 47 (by omega)]
    rcases h1 with z | z
    · refine .inl ⟨z.1, ?_⟩
      unfold sy1 at *
      rw [hX 5 (by omega), hX 6 (by omega), hX 7 (by omega), hX 8 (by omega), hX 9 (by omega), hT 5 (by omega), hT 6 (by omega), hT 7 (by omega), hT 8 (by omega), hT 9 (by omega)]
      exact z.2
    · exact .inr ⟨z.1, pr1_c (hT 0 (by omega)) (hT 1 (by omega)) (by rw [hT 5 (by omega)]) (fun k _ => by rw [hT 6 (by omega), hT 7 (by omega), hT 8 (by omega), hT 9 (by omega)]; exact ⟨rfl, rfl, rfl, rfl⟩) z.2⟩
theorem FRS_fr {X Y : xSt} (h : frx X Y) (hf : FRS X) : FRS Y := by
  unfold FRS at *
  rw [h 47 (by omega)]
  exact hf
/-- what the walks use -/
theorem RD_x {T X : xSt} (h : XT T X) (hf : FRS X) : (∀ q, q < 6 → LQ X q) ∧ cnt X 0 = vN (T 2 0) ∧ std X 0 = vN (T 2 0) ∧ cnt X 1 = vN (T 5 0) ∧ std X 1 = vN (T 5 0) ∧ X 2 0 = nI (vN (T 2 0)) ∧ vN (T 2 0) ≤ 8 ∧ X 5 0 = nI (vN (T 5 0)) ∧ vN (T 5 0) ≤ 10 ∧ T 2 0 = nI (vN (T 2 0)) ∧ T 5 0 = nI (vN (T 5 0)) ∧ sy0 T X ∧ sy1 T X := by
  obtain ⟨hB, hC, hK, hO, hP, hTB, h0, h1, -⟩ := h
  have z0 := (h0.resolve_right (fun z => by rw [hf.1] at z; exact absurd z.1 (by decide +kernel))).2
  have z1 := (h1.resolve_right (fun z => by rw [hf.2] at z; exact absurd z.1 (by decide +kernel))).2
  have p0 := bd_v hP.1 (by decide)
  have p1 := bd_v hP.2.1 (by decide)
  have a0 : cnt X 0 = vN (T 2 0) := by unfold cnt; rw [show szr 0 = 2 from rfl, z0.1]
  have a1 : cnt X 1 = vN (T 5 0) := by unfold cnt; rw [show szr 1 = 5 from rfl, z1.1]
  exact ⟨hB.2.1, a0, (hB.2.2.2.2.2.2.2.1 0 (by decide) (by decide)).trans a0, a1, (hB.2.2.2.2.2.2.2.1 1 (by decide) (by decide)).trans a1, z0.1.trans p0.1, p0.2, z1.1.trans p1.1, p1.2, p0.1, p1.1, z0, z1⟩
theorem clampI_b (x : Int32) : bd (clampI x) 99 := by
  unfold clampI
  by_cases h : 0 ≤ x
  · rw [if_pos h]
    by_cases g : x ≤ nI 99
    · rw [if_pos g]
      exact bd_I (by decide) ⟨h, g⟩
    · rw [if_neg g]; exact ⟨99, Nat.le_refl _, rfl⟩
  · rw [if_neg h]; exact ⟨0, by decide, rfl⟩
theorem clampI_x (a : Int32) : (if nI 99 < (if a < nI 0 then nI 0 else a) then nI 99 else (if a < nI 0 then nI 0 else a)) = clampI a := by
  unfold clampI
  by_cases h : a < nI 0
  · rw [if_pos h, if_neg (by decide +kernel), if_neg (show ¬ (0 : Int32) ≤ a from Int32.not_le.mpr h)]
  · rw [if_neg h, if_pos (show (0 : Int32) ≤ a from Int32.not_lt.mp h)]
    by_cases g : nI 99 < a
    · rw [if_pos g, if_neg (Int32.not_le.mpr g)]
    · rw [if_neg g, if_pos (Int32.not_lt.mp g)]
theorem DA_29 {T X : xSt} (p : Nat) (v : Int32) (hv : v = nI 1 → wN T p < vN (T 2 0)) (h : DA T X) : DA (mwr T 29 p v) (mwr X 29 p v) := by
  refine ⟨fun k hk => ?_, fun q hq => ?_, fun q hq h1 => ?_, ?_⟩
  · rw [mwr_R _ _ _ (show 27 ≠ 29 by decide), mwr_R _ _ _ (show 28 ≠ 29 by decide), mwr_R _ _ _ (show 27 ≠ 29 by decide), mwr_R _ _ _ (show 28 ≠ 29 by decide)]
    exact h.1 k hk
  · by_cases e : q = p
    · rw [e, mwr_s, mwr_s]
    · rw [mwr_q _ _ _ _ e, mwr_q _ _ _ _ e]
      exact h.2.1 q hq
  · by_cases e : q = p
    · rw [e, mwr_s] at h1
      rw [e]
      exact hv h1
    · rw [mwr_q _ _ _ _ e] at h1
      exact h.2.2.1 q hq h1
  · intro e he
    rw [mwr_R _ _ _ (show 55 ≠ 29 by decide)] at he
    rw [mwr_R _ _ _ (show 30 ≠ 29 by decide), mwr_R _ _ _ (show 31 ≠ 29 by decide), mwr_R _ _ _ (show 32 ≠ 29 by decide), mwr_R _ _ _ (show 30 ≠ 29 by decide), mwr_R _ _ _ (show 31 ≠ 29 by decide), mwr_R _ _ _ (show 32 ≠ 29 by decide)]
    exact h.2.2.2 e he
theorem DA_27 {T X : xSt} (k : Nat) (v : Int32) (hv : bd v 99) (h : DA T X) : DA (mwr T 27 k v) (mwr X 27 k v) := by
  refine ⟨fun q hq => ?_, fun q hq => ?_, fun q hq h1 => ?_, ?_⟩
  · rw [mwr_R _ _ _ (show 28 ≠ 27 by decide), mwr_R _ _ _ (show 28 ≠ 27 by decide)]
    by_cases e : q = k
    · rw [e, mwr_s, mwr_s]
      exact ⟨rfl, hv, (h.1 k (by rw [← e]; exact hq)).2.2⟩
    · rw [mwr_q _ _ _ _ e, mwr_q _ _ _ _ e]
      exact h.1 q hq
  · rw [mwr_R _ _ _ (show 29 ≠ 27 by decide), mwr_R _ _ _ (show 29 ≠ 27 by decide)]
    exact h.2.1 q hq
  · rw [mwr_R _ _ _ (show 29 ≠ 27 by decide)] at h1
    exact h.2.2.1 q hq h1
  · intro e he
    rw [mwr_R _ _ _ (show 55 ≠ 27 by decide)] at he
    rw [mwr_R _ _ _ (show 30 ≠ 27 by decide), mwr_R _ _ _ (show 31 ≠ 27 by decide), mwr_R _ _ _ (show 32 ≠ 27 by decide), mwr_R _ _ _ (show 30 ≠ 27 by decide), mwr_R _ _ _ (show 31 ≠ 27 by decide), mwr_R _ _ _ (show 32 ≠ 27 by decide)]
    exact h.2.2.2 e he
theorem DA_28 {T X : xSt} (k : Nat) (v : Int32) (h : DA T X) : DA (mwr T 28 k v) (mwr X 28 k v) := by
  refine ⟨fun q hq => ?_, fun q hq => ?_, fun q hq h1 => ?_, ?_⟩
  · rw [mwr_R _ _ _ (show 27 ≠ 28 by decide), mwr_R _ _ _ (show 27 ≠ 28 by decide)]
    refine ⟨(h.1 q hq).1, (h.1 q hq).2.1, ?_⟩
    by_cases e : q = k
    · rw [e, mwr_s, mwr_s]
    · rw [mwr_q _ _ _ _ e, mwr_q _ _ _ _ e]
      exact (h.1 q hq).2.2
  · rw [mwr_R _ _ _ (show 29 ≠ 28 by decide), mwr_R _ _ _ (show 29 ≠ 28 by decide)]
    exact h.2.1 q hq
  · rw [mwr_R _ _ _ (show 29 ≠ 28 by decide)] at h1
    exact h.2.2.1 q hq h1
  · intro e he
    rw [mwr_R _ _ _ (show 55 ≠ 28 by decide)] at he
    rw [mwr_R _ _ _ (show 30 ≠ 28 by decide), mwr_R _ _ _ (show 31 ≠ 28 by decide), mwr_R _ _ _ (show 32 ≠ 28 by decide), mwr_R _ _ _ (show 30 ≠ 28 by decide), mwr_R _ _ _ (show 31 ≠ 28 by decide), mwr_R _ _ _ (show 32 ≠ 28 by decide)]
    exact h.2.2.2 e he
theorem RD_wr {T X : xSt} {j i : Nat} {v : Int32} (hj : 27 ≤ j ∧ j ≤ 32) (hd : DA (mwr T j i v) (mwr X j i v)) (h : RD T X) : RD (mwr T j i v) (mwr X j i v) :=
  ⟨XT_fr (fr_mwr (fr_rf T) hj i v) (frx_of (fr_mwr (fr_rf X) hj i v)) h.1, FRS_fr (frx_of (fr_mwr (fr_rf X) hj i v)) h.2.1, hd⟩
theorem RD_29 {T X : xSt} (p : Nat) (v : Int32) (hv : v = nI 1 → wN T p < vN (T 2 0)) (h : RD T X) : RD (mwr T 29 p v) (mwr X 29 p v) := RD_wr (by decide) (DA_29 p v hv h.2.2) h
/-- a promise more in the model's plan alone -/
theorem RD_29' {T X : xSt} {p : Nat} (v : Int32) (hp : vN (T 5 0) ≤ p) (h : RD T X) : RD (mwr T 29 p v) X := by
  refine ⟨XT_fr (fr_mwr (fr_rf T) (by decide) p v) (frx_rf X) h.1, h.2.1, fun k hk => ?_, fun q hq => ?_, fun q hq h1 => ?_, ?_⟩
  · rw [mwr_R _ _ _ (show 27 ≠ 29 by decide), mwr_R _ _ _ (show 28 ≠ 29 by decide)]
    exact h.2.2.1 k hk
  · have hq : q < vN (T 5 0) := hq
    rw [mwr_q _ _ _ _ (show q ≠ p by omega)]
    exact h.2.2.2.1 q hq
  · have hq : q < vN (T 5 0) := hq
    rw [mwr_q _ _ _ _ (show q ≠ p by omega)] at h1
    exact h.2.2.2.2.1 q hq h1
  · intro e he
    rw [mwr_R _ _ _ (show 30 ≠ 29 by decide), mwr_R _ _ _ (show 31 ≠ 29 by decide), mwr_R _ _ _ (show 32 ≠ 29 by decide)]
    exact h.2.2.2.2.2 e he
theorem RD_cut {T X : xSt} {k : Nat} (x : Int32) (hk : k < vN (T 2 0)) (h : RD T X) : RD (cutS k x T) (cutS k x X) := by
  unfold cutS
  rw [(h.2.2.1 k hk).1]
  exact RD_wr (by decide) (DA_27 k _ (clampI_b _) h.2.2) h
theorem RD_28 {T X : xSt} {k : Nat} (x : Int32) (hk : k < vN (T 2 0)) (h : RD T X) : RD (mwr T 28 k (T 28 k + x)) (mwr X 28 k (X 28 k + x)) := by
  rw [(h.2.2.1 k hk).2.2]
  exact RD_wr (by decide) (DA_28 k _ h.2.2) h
theorem eln_0 (X : xSt) (i : Nat) : eln X 0 i = 1088 + i := if_neg (fun z => by omega)
theorem eln_1 (X : xSt) (i : Nat) : eln X 1 i = 1152 + i := if_neg (fun z => by omega)
theorem eln_3 (X : xSt) (i : Nat) : eln X 3 i = 1280 + i := if_neg (fun z => by omega)
theorem eln_4 (X : xSt) (i : Nat) : eln X 4 i = 1344 + i := if_neg (fun z => by omega)
theorem eln_5 (X : xSt) (i : Nat) : eln X 5 i = 1408 + i := if_neg (fun z => by omega)
/-- isPerson's word -/
theorem isP_iff {P w : Nat} (hP : P ≤ 8) (hw : w < 1000) : (nI 0 ≤ nI w ∧ nI w ≤ nI P - nI 1) ↔ w < P := by
  constructor
  · intro h
    obtain ⟨k, h1, h2, h3⟩ := bd_in (v := nI w) (x := nI P) (n := P) (by omega) ⟨P, Nat.le_refl _, rfl⟩ h
    have := (nI_eq (by omega) (by omega)).mp h1
    omega
  · intro h
    rw [pk_sub (by omega)]
    exact ⟨nI_le (by omega) (by omega), nI_le (by omega) (by omega)⟩
theorem so3 (X : xSt) : wX X 901 = some (.inr (7, false, [])) ∧ wX X 902 = some (.inr (8, false, [])) ∧ wX X 903 = some (.inr (9, false, [])) := ⟨wX_so0 X, wX_so1 X, wX_so2 X⟩
section R3
variable {l : Launch} {M : xM} {Sp : xS} {pc : Nat} {ls : List (Option Value)} {st : List Value} {w : xW} {k n : Nat}
theorem Vx_ldc {a N : Nat} {f : Nat → Int32} {i : Int32} {x : Nat} (hd : decode M.2.1 pc = .ok (.iaload, 1)) (hw : w a = some (.inl (.int, true, N, cutI N f))) (hi : i = nI x) (hx : x < N) (hN : N < 2 ^ 31) (kk : V l M Sp (pc + 1) ls (.int (f x) :: st) w k n) : V l M Sp pc ls (.int i :: .ref a :: st) w k n := by
  subst hi
  exact V_iald hd hw (vp_in_nI hx hN) (by rw [nI_clamp (by omega)]; exact cutI_at hx) kk
end R3
set_option maxHeartbeats 4000000 in
theorem x_cuts (l : Launch) {X : xSt} (k : Nat) (hk : k < 8) (x : Int32) : Cy l yX0_cuts (ws_ yX0_cuts cX0_cuts 3 none) 1 [.ref 0, .int (nI k), .int x] X (fun r X' => r = none ∧ X' = cutS k x X) := by
  refine Cz_start (ls := [some (.ref 0), some (.int (nI k)), some (.int x)]) (by decide) rfl (Nat.le_of_ble_eq_true rfl) (fun _ _ _ h => h) ?_
  intro Q hQ
  refine V_aload_n dX0_cuts_0 rfl ?_
  refine V_getf (i := 6) k_X0 dX0_cuts_1 (by decide) q233 (wX_obj _) rfl ?_
  refine V_iload_n dX0_cuts_4 rfl ?_
  refine V_aload_n dX0_cuts_5 rfl ?_
  refine V_getf (i := 6) k_X0 dX0_cuts_6 (by decide) q233 (wX_obj _) rfl ?_
  refine V_iload_n dX0_cuts_9 rfl ?_
  refine Vx_ld_coats dX0_cuts_10 (by first | rfl | assumption) (by omega) ?_
  refine V_iload_n dX0_cuts_11 rfl ?_
  refine V_iadd dX0_cuts_12 ?_
  refine V_iconst dX0_cuts_13 li_0 ?_
  refine V_mmax dX0_cuts_14 q816 q479 q109 q480 ⟨Nat.le_of_ble_eq_true rfl, Nat.le_of_ble_eq_true rfl⟩ (Nat.le_of_ble_eq_true rfl) ?_
  refine V_bipush dX0_cuts_17 lb_99 ?_
  refine V_mmin dX0_cuts_19 q817 q482 q109 q483 ⟨Nat.le_of_ble_eq_true rfl, Nat.le_of_ble_eq_true rfl⟩ (Nat.le_of_ble_eq_true rfl) ?_
  rw [clampI_x]
  refine Vx_st_coats dX0_cuts_22 (by first | rfl | assumption) (by omega) ?_
  exact V_vreturn dX0_cuts_23 rfl (hQ _ _ ⟨rfl, rfl⟩)
