/-! PromiseTailor's side: questions behind find -/
set_option maxRecDepth 100000
/-- behind find -/
def RQ (T X : xSt) : Prop := RD T X ∧ X 55 0 = nI 24
theorem RQ_30 {T X : xSt} (h : RQ T X) {d k : Nat} (hd : d < 24) (hk : k < vN (T 2 0)) : X 30 (8 * d + k) = T 30 (8 * d + k) ∧ X 31 (8 * d + k) = T 31 (8 * d + k) := (h.1.2.2.2.2.2 d (by rw [h.2, vN_nI (by decide)]; exact hd)).1 k hk
theorem RQ_32 {T X : xSt} (h : RQ T X) {d p : Nat} (hd : d < 24) (hp : p < vN (T 5 0)) : X 32 (12 * d + p) = T 32 (12 * d + p) := (h.1.2.2.2.2.2 d (by rw [h.2, vN_nI (by decide)]; exact hd)).2 p hp
theorem itA_c {f g : Nat → Int32 → Int32} : ∀ (j i : Nat) (a : Int32), (∀ k, i ≤ k → k < i + j → f k = g k) → itA f j i a = itA g j i a
  | 0, _, _, _ => rfl
  | j + 1, i, a, h => by
    show itA f j (i + 1) (f i a) = itA g j (i + 1) (g i a)
    rw [h i (Nat.le_refl _) (by omega)]
    exact itA_c j (i + 1) _ (fun k h1 h2 => h k (by omega) (by omega))
theorem bits_of : ∀ (n : Nat) (f : Nat → Bool), ∃ m, m < 2 ^ n ∧ ∀ k, k < n → m.testBit k = f k
  | 0, _ => ⟨0, by decide, fun k h => absurd h (by omega)⟩
  | n + 1, f => by
    obtain ⟨m, h1, h2⟩ := bits_of n (fun k => f (k + 1))
    refine ⟨2 * m + (f 0).toNat, ?_, fun k hk => ?_⟩
    · have : (f 0).toNat ≤ 1 := by cases f 0 <;> decide
      rw [Nat.pow_succ]
      omega
    · match k, hk with
      | 0, _ =>
        rw [Nat.testBit_zero]
        cases f 0 <;> simp <;> omega
      | k + 1, hk =>
        rw [Nat.testBit_succ, show (2 * m + (f 0).toNat) / 2 = m from by have : (f 0).toNat ≤ 1 := (by cases f 0 <;> decide); omega]
        exact h2 k (by omega)
theorem bc_all : ∀ P, P < 9 → ∀ m, m < 256 → bcI (itA (fun k a => a ||| (if m.testBit k = true then nI 1 <<< (nI k &&& 31) else nI 0)) P 0 (nI 0)) = itA (fun k a => a + (if m.testBit k = true then nI 1 else nI 0)) P 0 (nI 0) := by decide +kernel
theorem bc_neat (S : xSt) (d : Nat) (h : vN (S 2 0) ≤ 8) : bcI (neatF S d) = fitManyF S d := by
  obtain ⟨m, h1, h2⟩ := bits_of 8 (fun k => decide (fitP S d k))
  have e : ∀ k, k < 8 → (m.testBit k = true ↔ fitP S d k) := fun k hk => by rw [h2 k hk]; exact decide_eq_true_iff
  have a1 : neatF S d = itA (fun k a => a ||| (if m.testBit k = true then nI 1 <<< (nI k &&& 31) else nI 0)) (vN (S 2 0)) 0 (nI 0) := itA_c _ _ _ (fun k _ hk => by
    funext a
    unfold neF
    by_cases z : fitP S d k
    · rw [if_pos z, if_pos ((e k (by omega)).mpr z)]
    · rw [if_neg z, if_neg (fun y => z ((e k (by omega)).mp y))])
  have a2 : fitManyF S d = itA (fun k a => a + (if m.testBit k = true then nI 1 else nI 0)) (vN (S 2 0)) 0 (nI 0) := itA_c _ _ _ (fun k _ hk => by
    funext a
    unfold fmF
    by_cases z : fitP S d k
    · rw [if_pos z, if_pos ((e k (by omega)).mpr z)]
    · rw [if_neg z, if_neg (fun y => z ((e k (by omega)).mp y))])
  rw [a1, a2]
  exact bc_all _ (by omega) m h1
set_option maxHeartbeats 4000000 in
theorem x_isFit (l : Launch) {T X : xSt} (h : RQ T X) {d k : Nat} (hd : d < 24) (hk : k < vN (T 2 0)) : Cq l yX0_isFit cX0_isFit 3 (some .boolean) 16 [.ref 0, .int (nI d), .int (nI k)] (wX X) (some (.int (bI (fitP T d k)))) := by
  refine Cq_start (ls := [some (.ref 0), some (.int (nI d)), some (.int (nI k))]) (by decide) rfl (Nat.le_of_ble_eq_true rfl) ?_
  intro Q hQ
  obtain ⟨hl, c0, d0, c1, d1, n2, b2, n5, b5, m2, m5, y0, y1⟩ := RD_x h.1.1 h.1.2.1
  refine V_aload_n dX0_isFit_0 rfl ?_
  refine V_getf (i := 9) k_X0 dX0_isFit_1 (by decide) q236 (wX_obj _) rfl ?_
  refine V_iload_n dX0_isFit_4 rfl ?_
  refine Vx_aa_coatsBy dX0_isFit_5 rfl hd ?_
  refine V_iload_n dX0_isFit_6 rfl ?_
  refine Vx_ld_crow dX0_isFit_7 hd rfl (by omega) ?_
  rw [(RQ_30 h hd hk).1]
  refine V_aload_n dX0_isFit_8 rfl ?_
  refine V_getf (i := 1) k_X0 dX0_isFit_9 (by decide) q228 (wX_obj _) rfl ?_
  refine V_getfU (i := 6) k_X2 dX0_isFit_12 (by decide) q175 q176 (wX_tx0 _) rfl ?_
  refine V_iload_n dX0_isFit_15 rfl ?_
  refine V_get (q := 0) (hl 0 (by decide)) rfl (by omega) dX0_isFit_16 (lw_V q665 q666 q667 q100 q668) (Nat.le_of_ble_eq_true rfl) (by decide) ?_
  rw [eln_0]
  refine V_castE dX0_isFit_19 q679 (.inl ⟨_, _, _, _, (wX_per _ (d := k) (by omega) (show k < std X 0 by omega)), cl_X8, rfl⟩) ?_
  refine V_getfN (i := 1) k_X8 dX0_isFit_22 (by decide) (nw q584 rfl) (wX_per _ (d := k) (by omega) (show k < std X 0 by omega)) rfl ?_
  rw [(y0.2 k hk).2]
  refine V_isub dX0_isFit_25 ?_
  refine V_i2l dX0_isFit_26 rfl ?_
  refine V_lconst (v := 0) dX0_isFit_27 (by rfl) ?_
  refine V_lconst (v := 1) dX0_isFit_28 (by rfl) ?_
  refine Vs_callIF (s_in l (T 30 (8 * d + k) - T 4 k).toInt64 0 1) dX0_isFit_29 (lw_S q307 q308 q95 q309) hs_X0_in (by decide) rfl (Nat.le_of_ble_eq_true rfl) ?_
  exact V_zreturn dX0_isFit_32 rfl (by first | exact bI_nr | exact nr_0 | exact nr_1 | rfl) (by rw [bI_iff (show fitP T d k ↔ ((0 : Int64) ≤ (T 30 (8 * d + k) - T 4 k).toInt64 ∧ (T 30 (8 * d + k) - T 4 k).toInt64 ≤ 1) from by rw [l64_0, l64_1]; exact (i64_in _ _ _).symm)] at hQ; exact hQ)
set_option maxHeartbeats 4000000 in
theorem x_coatBy (l : Launch) {T X : xSt} (h : RQ T X) {d k : Nat} (hd : d < 24) (hk : k < vN (T 2 0)) (what : Int32) : Cq l yX0_coatBy cX0_coatBy 4 (some .int) 17 [.ref 0, .int (nI d), .int (nI k), .int what] (wX X) (some (.int (coatV T d k what))) := by
  refine Cq_start (ls := [some (.ref 0), some (.int (nI d)), some (.int (nI k)), some (.int what)]) (by decide) rfl (Nat.le_of_ble_eq_true rfl) ?_
  intro Q hQ
  obtain ⟨hl, c0, d0, c1, d1, n2, b2, n5, b5, m2, m5, y0, y1⟩ := RD_x h.1.1 h.1.2.1
  refine V_iload_n dX0_coatBy_0 rfl ?_
  refine V_if_ne (tgt := 15) dX0_coatBy_1 (by decide) (fun c1 => ?_) (fun c1 => ?_)
  · refine V_iload_n dX0_coatBy_15 rfl ?_
    refine V_iconst dX0_coatBy_16 li_1 ?_
    refine V_icmp_ne (tgt := 37) dX0_coatBy_17 (by decide) (fun c17 => ?_) (fun c17 => ?_)
    · refine V_aload_n dX0_coatBy_37 rfl ?_
      refine V_getf (i := 10) k_X0 dX0_coatBy_38 (by decide) q237 (wX_obj _) rfl ?_
      refine V_iload_n dX0_coatBy_41 rfl ?_
      refine Vx_aa_tornBy dX0_coatBy_42 rfl hd ?_
      refine V_iload_n dX0_coatBy_43 rfl ?_
      refine Vx_ld_trow dX0_coatBy_44 hd rfl (by omega) ?_
      rw [(RQ_30 h hd hk).2]
      exact V_ireturn dX0_coatBy_45 rfl (by unfold coatV at hQ; rw [if_neg c1, if_neg c17] at hQ; exact hQ)
    · refine V_aload_n dX0_coatBy_20 rfl ?_
      refine V_iload_n dX0_coatBy_21 rfl ?_
      refine V_iload_n dX0_coatBy_22 rfl ?_
      refine Vq_v (x_isFit l h hd hk) dX0_coatBy_23 (lw_V q845 q847 qs16 q95 q848) hv_X0_isFit (by decide) (wX_obj _) cl_X0 rfl rfl (Nat.le_of_ble_eq_true rfl) ?_
      refine V_if_eqB (tgt := 33) dX0_coatBy_26 (by decide) (fun c26 => ?_) (fun c26 => ?_)
      · refine V_iconst dX0_coatBy_33 li_0 ?_
        refine V_goto (tgt := 45) dX0_coatBy_34 (by decide) ?_
        exact V_ireturn dX0_coatBy_45 rfl (by unfold coatV at hQ; rw [if_neg c1, if_pos c17, if_neg c26] at hQ; exact hQ)
      · refine V_iconst dX0_coatBy_29 li_1 ?_
        refine V_goto (tgt := 45) dX0_coatBy_30 (by decide) ?_
        exact V_ireturn dX0_coatBy_45 rfl (by unfold coatV at hQ; rw [if_neg c1, if_pos c17, if_pos c26] at hQ; exact hQ)
  · refine V_aload_n dX0_coatBy_4 rfl ?_
    refine V_getf (i := 9) k_X0 dX0_coatBy_5 (by decide) q236 (wX_obj _) rfl ?_
    refine V_iload_n dX0_coatBy_8 rfl ?_
    refine Vx_aa_coatsBy dX0_coatBy_9 rfl hd ?_
    refine V_iload_n dX0_coatBy_10 rfl ?_
    refine Vx_ld_crow dX0_coatBy_11 hd rfl (by omega) ?_
    rw [(RQ_30 h hd hk).1]
    refine V_goto (tgt := 45) dX0_coatBy_12 (by decide) ?_
    exact V_ireturn dX0_coatBy_45 rfl (by unfold coatV at hQ; rw [if_pos c1] at hQ; exact hQ)
set_option maxHeartbeats 4000000 in
theorem x_neatBy (l : Launch) {T X : xSt} (h : RQ T X) {d : Nat} (hd : d < 24) : Cq l yX0_neatBy cX0_neatBy 4 (some .int) 17 [.ref 0, .int (nI d)] (wX X) (some (.int (neatF T d))) := by
  refine Cq_start (ls := [some (.ref 0), some (.int (nI d)), none, none]) (by decide) rfl (Nat.le_of_ble_eq_true rfl) ?_
  intro Q hQ
  obtain ⟨hl, c0, d0, c1, d1, n2, b2, n5, b5, m2, m5, y0, y1⟩ := RD_x h.1.1 h.1.2.1
  have L : ∀ (j i : Nat) (a : Int32), i + j = vN (T 2 0) → itA (neF T d) j i a = neatF T d → V l (yX0_neatBy.cls, cX0_neatBy, 4, (some .int), [], yX0_neatBy.name) (rmD 17 0 0, xF0, Q, xX0) 4 [some (.ref 0), some (.int (nI d)), some (.int a), some (.int (nI i))] [] (wX X) 0 0 := by
    intro j
    induction j with
    | zero =>
      intro i a hij hR
      refine V_iload_n dX0_neatBy_4 rfl ?_
      refine V_aload_n dX0_neatBy_5 rfl ?_
      refine V_getf (i := 1) k_X0 dX0_neatBy_6 (by decide) q228 (wX_obj _) rfl ?_
      refine Vq_u (x_manyf0 l h.1.2.1.1 (hl 0 (by decide))) dX0_neatBy_9 (lw_U q658 q659 q661 q662 q96 q663) rfl hs_X1_many (by decide) (.inl ⟨_, _, _, _, (wX_tx0 _), cl_X2, rfl⟩) rfl (Nat.le_of_ble_eq_true rfl) ?_
      rw [n2]
      refine V_icmp_ge (tgt := 40) dX0_neatBy_12 (by decide) (fun _ => ?_) (fun c12 => absurd (nI_le (by omega) (by omega)) c12)
      refine V_iload_n dX0_neatBy_40 rfl ?_
      exact V_ireturn dX0_neatBy_41 rfl (by have hR : a = _ := hR; rw [hR]; exact hQ)
    | succ j ih =>
      intro i a hij hR
      refine V_iload_n dX0_neatBy_4 rfl ?_
      refine V_aload_n dX0_neatBy_5 rfl ?_
      refine V_getf (i := 1) k_X0 dX0_neatBy_6 (by decide) q228 (wX_obj _) rfl ?_
      refine Vq_u (x_manyf0 l h.1.2.1.1 (hl 0 (by decide))) dX0_neatBy_9 (lw_U q658 q659 q661 q662 q96 q663) rfl hs_X1_many (by decide) (.inl ⟨_, _, _, _, (wX_tx0 _), cl_X2, rfl⟩) rfl (Nat.le_of_ble_eq_true rfl) ?_
      rw [n2]
      refine V_icmp_ge (tgt := 40) dX0_neatBy_12 (by decide) (fun c12 => absurd c12 (nI_ge (by omega) (by omega))) (fun _ => ?_)
      refine V_iload_n dX0_neatBy_15 rfl ?_
      refine V_aload_n dX0_neatBy_16 rfl ?_
      refine V_iload_n dX0_neatBy_17 rfl ?_
      refine V_iload_n dX0_neatBy_18 rfl ?_
      refine Vq_v (x_isFit l h hd (show i < vN (T 2 0) by omega)) dX0_neatBy_19 (lw_V q845 q847 qs16 q95 q848) hv_X0_isFit (by decide) (wX_obj _) cl_X0 rfl rfl (Nat.le_of_ble_eq_true rfl) ?_
      refine V_if_eqB (tgt := 31) dX0_neatBy_22 (by decide) (fun c22 => ?_) (fun c22 => ?_)
      · refine V_iconst dX0_neatBy_31 li_0 ?_
        refine V_ior dX0_neatBy_32 ?_
        refine V_istore_n dX0_neatBy_33 rfl (Nat.le_of_ble_eq_true rfl) (Nat.le_of_ble_eq_true rfl) ?_
        refine V_iinc dX0_neatBy_34 rfl (iinc_1 _) rfl (Nat.le_of_ble_eq_true rfl) ?_
        refine V_goto (tgt := 4) dX0_neatBy_37 (by decide) ?_
        exact ih (i + 1) _ (by omega) (by rw [← hR]; show itA _ j (i + 1) _ = itA _ j (i + 1) _; congr 1; unfold neF; rw [if_neg c22])
      · refine V_iconst dX0_neatBy_25 li_1 ?_
        refine V_iload_n dX0_neatBy_26 rfl ?_
        refine V_ishl dX0_neatBy_27 ?_
        refine V_goto (tgt := 32) dX0_neatBy_28 (by decide) ?_
        refine V_ior dX0_neatBy_32 ?_
        refine V_istore_n dX0_neatBy_33 rfl (Nat.le_of_ble_eq_true rfl) (Nat.le_of_ble_eq_true rfl) ?_
        refine V_iinc dX0_neatBy_34 rfl (iinc_1 _) rfl (Nat.le_of_ble_eq_true rfl) ?_
        refine V_goto (tgt := 4) dX0_neatBy_37 (by decide) ?_
        exact ih (i + 1) _ (by omega) (by rw [← hR]; show itA _ j (i + 1) _ = itA _ j (i + 1) _; congr 1; unfold neF; rw [if_pos c22])
  refine V_iconst dX0_neatBy_0 li_0 ?_
  refine V_istore_n dX0_neatBy_1 rfl (Nat.le_of_ble_eq_true rfl) (Nat.le_of_ble_eq_true rfl) ?_
  refine V_iconst dX0_neatBy_2 li_0 ?_
  refine V_istore_n dX0_neatBy_3 rfl (Nat.le_of_ble_eq_true rfl) (Nat.le_of_ble_eq_true rfl) ?_
  exact L (vN (T 2 0)) 0 (nI 0) (Nat.zero_add _) rfl
set_option maxHeartbeats 4000000 in
theorem x_nakedBy (l : Launch) {T X : xSt} (h : RQ T X) {d : Nat} (hd : d < 24) : Cq l yX0_nakedBy cX0_nakedBy 4 (some .int) 17 [.ref 0, .int (nI d)] (wX X) (some (.int (nakedF T d))) := by
  refine Cq_start (ls := [some (.ref 0), some (.int (nI d)), none, none]) (by decide) rfl (Nat.le_of_ble_eq_true rfl) ?_
  intro Q hQ
  obtain ⟨hl, c0, d0, c1, d1, n2, b2, n5, b5, m2, m5, y0, y1⟩ := RD_x h.1.1 h.1.2.1
  have L : ∀ (j i : Nat) (a : Int32), i + j = vN (T 2 0) → itA (nkF T d) j i a = nakedF T d → V l (yX0_nakedBy.cls, cX0_nakedBy, 4, (some .int), [], yX0_nakedBy.name) (rmD 17 0 0, xF0, Q, xX0) 4 [some (.ref 0), some (.int (nI d)), some (.int a), some (.int (nI i))] [] (wX X) 0 0 := by
    intro j
    induction j with
    | zero =>
      intro i a hij hR
      refine V_iload_n dX0_nakedBy_4 rfl ?_
      refine V_aload_n dX0_nakedBy_5 rfl ?_
      refine V_getf (i := 1) k_X0 dX0_nakedBy_6 (by decide) q228 (wX_obj _) rfl ?_
      refine Vq_u (x_manyf0 l h.1.2.1.1 (hl 0 (by decide))) dX0_nakedBy_9 (lw_U q658 q659 q661 q662 q96 q663) rfl hs_X1_many (by decide) (.inl ⟨_, _, _, _, (wX_tx0 _), cl_X2, rfl⟩) rfl (Nat.le_of_ble_eq_true rfl) ?_
      rw [n2]
      refine V_icmp_ge (tgt := 42) dX0_nakedBy_12 (by decide) (fun _ => ?_) (fun c12 => absurd (nI_le (by omega) (by omega)) c12)
      refine V_iload_n dX0_nakedBy_42 rfl ?_
      exact V_ireturn dX0_nakedBy_43 rfl (by have hR : a = _ := hR; rw [hR]; exact hQ)
    | succ j ih =>
      intro i a hij hR
      refine V_iload_n dX0_nakedBy_4 rfl ?_
      refine V_aload_n dX0_nakedBy_5 rfl ?_
      refine V_getf (i := 1) k_X0 dX0_nakedBy_6 (by decide) q228 (wX_obj _) rfl ?_
      refine Vq_u (x_manyf0 l h.1.2.1.1 (hl 0 (by decide))) dX0_nakedBy_9 (lw_U q658 q659 q661 q662 q96 q663) rfl hs_X1_many (by decide) (.inl ⟨_, _, _, _, (wX_tx0 _), cl_X2, rfl⟩) rfl (Nat.le_of_ble_eq_true rfl) ?_
      rw [n2]
      refine V_icmp_ge (tgt := 42) dX0_nakedBy_12 (by decide) (fun c12 => absurd c12 (nI_ge (by omega) (by omega))) (fun _ => ?_)
      refine V_iload_n dX0_nakedBy_15 rfl ?_
      refine V_aload_n dX0_nakedBy_16 rfl ?_
      refine V_getf (i := 9) k_X0 dX0_nakedBy_17 (by decide) q236 (wX_obj _) rfl ?_
      refine V_iload_n dX0_nakedBy_20 rfl ?_
      refine Vx_aa_coatsBy dX0_nakedBy_21 rfl hd ?_
      refine V_iload_n dX0_nakedBy_22 rfl ?_
      refine Vx_ld_crow dX0_nakedBy_23 hd rfl (by omega) ?_
      rw [(RQ_30 h hd (show i < vN (T 2 0) by omega)).1]
      refine V_if_ne (tgt := 33) dX0_nakedBy_24 (by decide) (fun c24 => ?_) (fun c24 => ?_)
      · refine V_iconst dX0_nakedBy_33 li_0 ?_
        refine V_ior dX0_nakedBy_34 ?_
        refine V_istore_n dX0_nakedBy_35 rfl (Nat.le_of_ble_eq_true rfl) (Nat.le_of_ble_eq_true rfl) ?_
        refine V_iinc dX0_nakedBy_36 rfl (iinc_1 _) rfl (Nat.le_of_ble_eq_true rfl) ?_
        refine V_goto (tgt := 4) dX0_nakedBy_39 (by decide) ?_
        exact ih (i + 1) _ (by omega) (by rw [← hR]; show itA _ j (i + 1) _ = itA _ j (i + 1) _; congr 1; unfold nkF; rw [if_neg c24])
      · refine V_iconst dX0_nakedBy_27 li_1 ?_
        refine V_iload_n dX0_nakedBy_28 rfl ?_
        refine V_ishl dX0_nakedBy_29 ?_
        refine V_goto (tgt := 34) dX0_nakedBy_30 (by decide) ?_
        refine V_ior dX0_nakedBy_34 ?_
        refine V_istore_n dX0_nakedBy_35 rfl (Nat.le_of_ble_eq_true rfl) (Nat.le_of_ble_eq_true rfl) ?_
        refine V_iinc dX0_nakedBy_36 rfl (iinc_1 _) rfl (Nat.le_of_ble_eq_true rfl) ?_
        refine V_goto (tgt := 4) dX0_nakedBy_39 (by decide) ?_
        exact ih (i + 1) _ (by omega) (by rw [← hR]; show itA _ j (i + 1) _ = itA _ j (i + 1) _; congr 1; unfold nkF; rw [if_pos c24])
  refine V_iconst dX0_nakedBy_0 li_0 ?_
  refine V_istore_n dX0_nakedBy_1 rfl (Nat.le_of_ble_eq_true rfl) (Nat.le_of_ble_eq_true rfl) ?_
  refine V_iconst dX0_nakedBy_2 li_0 ?_
  refine V_istore_n dX0_nakedBy_3 rfl (Nat.le_of_ble_eq_true rfl) (Nat.le_of_ble_eq_true rfl) ?_
  exact L (vN (T 2 0)) 0 (nI 0) (Nat.zero_add _) rfl
set_option maxHeartbeats 4000000 in
theorem x_allSplits (l : Launch) {T X : xSt} (h : RQ T X)  : Cq l yX0_allSplits cX0_allSplits 3 (some .int) 17 [.ref 0] (wX X) (some (.int (tearsF T))) := by
  refine Cq_start (ls := [some (.ref 0), none, none]) (by decide) rfl (Nat.le_of_ble_eq_true rfl) ?_
  intro Q hQ
  obtain ⟨hl, c0, d0, c1, d1, n2, b2, n5, b5, m2, m5, y0, y1⟩ := RD_x h.1.1 h.1.2.1
  have L : ∀ (j i : Nat) (a : Int32), i + j = vN (T 2 0) → itA (taF T) j i a = tearsF T → V l (yX0_allSplits.cls, cX0_allSplits, 3, (some .int), [], yX0_allSplits.name) (rmD 17 0 0, xF0, Q, xX0) 4 [some (.ref 0), some (.int a), some (.int (nI i))] [] (wX X) 0 0 := by
    intro j
    induction j with
    | zero =>
      intro i a hij hR
      refine V_iload_n dX0_allSplits_4 rfl ?_
      refine V_aload_n dX0_allSplits_5 rfl ?_
      refine V_getf (i := 1) k_X0 dX0_allSplits_6 (by decide) q228 (wX_obj _) rfl ?_
      refine Vq_u (x_manyf0 l h.1.2.1.1 (hl 0 (by decide))) dX0_allSplits_9 (lw_U q658 q659 q661 q662 q96 q663) rfl hs_X1_many (by decide) (.inl ⟨_, _, _, _, (wX_tx0 _), cl_X2, rfl⟩) rfl (Nat.le_of_ble_eq_true rfl) ?_
      rw [n2]
      refine V_icmp_ge (tgt := 30) dX0_allSplits_12 (by decide) (fun _ => ?_) (fun c12 => absurd (nI_le (by omega) (by omega)) c12)
      refine V_iload_n dX0_allSplits_30 rfl ?_
      exact V_ireturn dX0_allSplits_31 rfl (by have hR : a = _ := hR; rw [hR]; exact hQ)
    | succ j ih =>
      intro i a hij hR
      refine V_iload_n dX0_allSplits_4 rfl ?_
      refine V_aload_n dX0_allSplits_5 rfl ?_
      refine V_getf (i := 1) k_X0 dX0_allSplits_6 (by decide) q228 (wX_obj _) rfl ?_
      refine Vq_u (x_manyf0 l h.1.2.1.1 (hl 0 (by decide))) dX0_allSplits_9 (lw_U q658 q659 q661 q662 q96 q663) rfl hs_X1_many (by decide) (.inl ⟨_, _, _, _, (wX_tx0 _), cl_X2, rfl⟩) rfl (Nat.le_of_ble_eq_true rfl) ?_
      rw [n2]
      refine V_icmp_ge (tgt := 30) dX0_allSplits_12 (by decide) (fun c12 => absurd c12 (nI_ge (by omega) (by omega))) (fun _ => ?_)
      refine V_iload_n dX0_allSplits_15 rfl ?_
      refine V_aload_n dX0_allSplits_16 rfl ?_
      refine V_getf (i := 7) k_X0 dX0_allSplits_17 (by decide) q234 (wX_obj _) rfl ?_
      refine V_iload_n dX0_allSplits_20 rfl ?_
      refine Vx_ld_torn dX0_allSplits_21 rfl (by omega) ?_
      rw [(h.1.2.2.1 i (by omega)).2.2]
      refine V_iadd dX0_allSplits_22 ?_
      refine V_istore_n dX0_allSplits_23 rfl (Nat.le_of_ble_eq_true rfl) (Nat.le_of_ble_eq_true rfl) ?_
      refine V_iinc dX0_allSplits_24 rfl (iinc_1 _) rfl (Nat.le_of_ble_eq_true rfl) ?_
      refine V_goto (tgt := 4) dX0_allSplits_27 (by decide) ?_
      exact ih (i + 1) _ (by omega) hR
  refine V_iconst dX0_allSplits_0 li_0 ?_
  refine V_istore_n dX0_allSplits_1 rfl (Nat.le_of_ble_eq_true rfl) (Nat.le_of_ble_eq_true rfl) ?_
  refine V_iconst dX0_allSplits_2 li_0 ?_
  refine V_istore_n dX0_allSplits_3 rfl (Nat.le_of_ble_eq_true rfl) (Nat.le_of_ble_eq_true rfl) ?_
  exact L (vN (T 2 0)) 0 (nI 0) (Nat.zero_add _) rfl
set_option maxHeartbeats 4000000 in
theorem x_broken (l : Launch) {T X : xSt} (h : RQ T X)  : Cq l yX0_broken cX0_broken 3 (some .int) 17 [.ref 0] (wX X) (some (.int (brokenF T))) := by
  refine Cq_start (ls := [some (.ref 0), none, none]) (by decide) rfl (Nat.le_of_ble_eq_true rfl) ?_
  intro Q hQ
  obtain ⟨hl, c0, d0, c1, d1, n2, b2, n5, b5, m2, m5, y0, y1⟩ := RD_x h.1.1 h.1.2.1
  have L : ∀ (j i : Nat) (a : Int32), i + j = vN (T 5 0) → itA (brG T) j i a = brokenF T → V l (yX0_broken.cls, cX0_broken, 3, (some .int), [], yX0_broken.name) (rmD 17 0 0, xF0, Q, xX0) 4 [some (.ref 0), some (.int a), some (.int (nI i))] [] (wX X) 0 0 := by
    intro j
    induction j with
    | zero =>
      intro i a hij hR
      refine V_iload_n dX0_broken_4 rfl ?_
      refine V_aload_n dX0_broken_5 rfl ?_
      refine V_getf (i := 2) k_X0 dX0_broken_6 (by decide) q229 (wX_obj _) rfl ?_
      refine Vq_u (x_manyf1 l h.1.2.1.2 (hl 1 (by decide))) dX0_broken_9 (lw_U q707 q708 q709 q662 q96 q663) rfl hs_X1_many (by decide) (.inl ⟨_, _, _, _, (wX_tx1 _), cl_X3, rfl⟩) rfl (Nat.le_of_ble_eq_true rfl) ?_
      rw [n5]
      refine V_icmp_ge (tgt := 39) dX0_broken_12 (by decide) (fun _ => ?_) (fun c12 => absurd (nI_le (by omega) (by omega)) c12)
      refine V_iload_n dX0_broken_39 rfl ?_
      exact V_ireturn dX0_broken_40 rfl (by have hR : a = _ := hR; rw [hR]; exact hQ)
    | succ j ih =>
      intro i a hij hR
      refine V_iload_n dX0_broken_4 rfl ?_
      refine V_aload_n dX0_broken_5 rfl ?_
      refine V_getf (i := 2) k_X0 dX0_broken_6 (by decide) q229 (wX_obj _) rfl ?_
      refine Vq_u (x_manyf1 l h.1.2.1.2 (hl 1 (by decide))) dX0_broken_9 (lw_U q707 q708 q709 q662 q96 q663) rfl hs_X1_many (by decide) (.inl ⟨_, _, _, _, (wX_tx1 _), cl_X3, rfl⟩) rfl (Nat.le_of_ble_eq_true rfl) ?_
      rw [n5]
      refine V_icmp_ge (tgt := 39) dX0_broken_12 (by decide) (fun c12 => absurd c12 (nI_ge (by omega) (by omega))) (fun _ => ?_)
      refine V_iload_n dX0_broken_15 rfl ?_
      refine V_aload_n dX0_broken_16 rfl ?_
      refine V_getf (i := 8) k_X0 dX0_broken_17 (by decide) q235 (wX_obj _) rfl ?_
      refine V_iload_n dX0_broken_20 rfl ?_
      refine Vx_ld_states dX0_broken_21 rfl (by omega) ?_
      rw [h.1.2.2.2.1 i (by omega)]
      refine V_iconst dX0_broken_22 li_3 ?_
      refine V_icmp_ne (tgt := 30) dX0_broken_23 (by decide) (fun c23 => ?_) (fun c23 => ?_)
      · refine V_iconst dX0_broken_30 li_0 ?_
        refine V_iadd dX0_broken_31 ?_
        refine V_istore_n dX0_broken_32 rfl (Nat.le_of_ble_eq_true rfl) (Nat.le_of_ble_eq_true rfl) ?_
        refine V_iinc dX0_broken_33 rfl (iinc_1 _) rfl (Nat.le_of_ble_eq_true rfl) ?_
        refine V_goto (tgt := 4) dX0_broken_36 (by decide) ?_
        exact ih (i + 1) _ (by omega) (by rw [← hR]; show itA _ j (i + 1) _ = itA _ j (i + 1) _; congr 1; unfold brG; rw [if_neg c23])
      · refine V_iconst dX0_broken_26 li_1 ?_
        refine V_goto (tgt := 31) dX0_broken_27 (by decide) ?_
        refine V_iadd dX0_broken_31 ?_
        refine V_istore_n dX0_broken_32 rfl (Nat.le_of_ble_eq_true rfl) (Nat.le_of_ble_eq_true rfl) ?_
        refine V_iinc dX0_broken_33 rfl (iinc_1 _) rfl (Nat.le_of_ble_eq_true rfl) ?_
        refine V_goto (tgt := 4) dX0_broken_36 (by decide) ?_
        exact ih (i + 1) _ (by omega) (by rw [← hR]; show itA _ j (i + 1) _ = itA _ j (i + 1) _; congr 1; unfold brG; rw [if_pos c23])
  refine V_iconst dX0_broken_0 li_0 ?_
  refine V_istore_n dX0_broken_1 rfl (Nat.le_of_ble_eq_true rfl) (Nat.le_of_ble_eq_true rfl) ?_
  refine V_iconst dX0_broken_2 li_0 ?_
  refine V_istore_n dX0_broken_3 rfl (Nat.le_of_ble_eq_true rfl) (Nat.le_of_ble_eq_true rfl) ?_
  exact L (vN (T 5 0)) 0 (nI 0) (Nat.zero_add _) rfl
set_option maxHeartbeats 4000000 in
theorem x_longestBy (l : Launch) {T X : xSt} (h : RQ T X) {d : Nat} (hd : d < 24) : Cq l yX0_longestBy cX0_longestBy 4 (some .int) 17 [.ref 0, .int (nI d)] (wX X) (some (.int (longF T d))) := by
  refine Cq_start (ls := [some (.ref 0), some (.int (nI d)), none, none]) (by decide) rfl (Nat.le_of_ble_eq_true rfl) ?_
  intro Q hQ
  obtain ⟨hl, c0, d0, c1, d1, n2, b2, n5, b5, m2, m5, y0, y1⟩ := RD_x h.1.1 h.1.2.1
  have L : ∀ (j i : Nat) (a : Int32), i + j = vN (T 2 0) → (a = -1 ∨ ∃ b, b < i ∧ a = nI b) → itA (lgF T d) j i a = longF T d → V l (yX0_longestBy.cls, cX0_longestBy, 4, (some .int), [], yX0_longestBy.name) (rmD 17 0 0, xF0, Q, xX0) 4 [some (.ref 0), some (.int (nI d)), some (.int a), some (.int (nI i))] [] (wX X) 0 0 := by
    intro j
    induction j with
    | zero =>
      intro i a hij ha hR
      refine V_iload_n dX0_longestBy_4 rfl ?_
      refine V_aload_n dX0_longestBy_5 rfl ?_
      refine V_getf (i := 1) k_X0 dX0_longestBy_6 (by decide) q228 (wX_obj _) rfl ?_
      refine Vq_u (x_manyf0 l h.1.2.1.1 (hl 0 (by decide))) dX0_longestBy_9 (lw_U q658 q659 q661 q662 q96 q663) rfl hs_X1_many (by decide) (.inl ⟨_, _, _, _, (wX_tx0 _), cl_X2, rfl⟩) rfl (Nat.le_of_ble_eq_true rfl) ?_
      rw [n2]
      refine V_icmp_ge (tgt := 47) dX0_longestBy_12 (by decide) (fun _ => ?_) (fun c12 => absurd (nI_le (by omega) (by omega)) c12)
      refine V_iload_n dX0_longestBy_47 rfl ?_
      exact V_ireturn dX0_longestBy_48 rfl (by have hR : a = _ := hR; rw [hR]; exact hQ)
    | succ j ih =>
      intro i a hij ha hR
      refine V_iload_n dX0_longestBy_4 rfl ?_
      refine V_aload_n dX0_longestBy_5 rfl ?_
      refine V_getf (i := 1) k_X0 dX0_longestBy_6 (by decide) q228 (wX_obj _) rfl ?_
      refine Vq_u (x_manyf0 l h.1.2.1.1 (hl 0 (by decide))) dX0_longestBy_9 (lw_U q658 q659 q661 q662 q96 q663) rfl hs_X1_many (by decide) (.inl ⟨_, _, _, _, (wX_tx0 _), cl_X2, rfl⟩) rfl (Nat.le_of_ble_eq_true rfl) ?_
      rw [n2]
      refine V_icmp_ge (tgt := 47) dX0_longestBy_12 (by decide) (fun c12 => absurd c12 (nI_ge (by omega) (by omega))) (fun _ => ?_)
      refine V_iload_n dX0_longestBy_15 rfl ?_
      refine V_iconst dX0_longestBy_16 li_m1 ?_
      refine V_icmp_eq (tgt := 39) dX0_longestBy_17 (by decide) (fun c17 => ?_) (fun c17 => ?_)
      · refine V_iload_n dX0_longestBy_39 rfl ?_
        refine V_istore_n dX0_longestBy_40 rfl (Nat.le_of_ble_eq_true rfl) (Nat.le_of_ble_eq_true rfl) ?_
        refine V_iinc dX0_longestBy_41 rfl (iinc_1 _) rfl (Nat.le_of_ble_eq_true rfl) ?_
        refine V_goto (tgt := 4) dX0_longestBy_44 (by decide) ?_
        exact ih (i + 1) _ (by omega) (.inr ⟨i, by omega, rfl⟩) (by rw [← hR]; show itA _ j (i + 1) _ = itA _ j (i + 1) _; congr 1; unfold lgF; rw [if_pos c17])
      · obtain ⟨b, hb, ha2⟩ := ha.resolve_left c17
        have hvb : vN a = b := by rw [ha2]; exact vN_nI (by omega)
        refine V_aload_n dX0_longestBy_20 rfl ?_
        refine V_getf (i := 9) k_X0 dX0_longestBy_21 (by decide) q236 (wX_obj _) rfl ?_
        refine V_iload_n dX0_longestBy_24 rfl ?_
        refine Vx_aa_coatsBy dX0_longestBy_25 rfl hd ?_
        refine V_iload_n dX0_longestBy_26 rfl ?_
        refine Vx_ld_crow dX0_longestBy_27 hd rfl (by omega) ?_
        rw [(RQ_30 h hd (show i < vN (T 2 0) by omega)).1]
        refine V_aload_n dX0_longestBy_28 rfl ?_
        refine V_getf (i := 9) k_X0 dX0_longestBy_29 (by decide) q236 (wX_obj _) rfl ?_
        refine V_iload_n dX0_longestBy_32 rfl ?_
        refine Vx_aa_coatsBy dX0_longestBy_33 rfl hd ?_
        refine V_iload_n dX0_longestBy_34 rfl ?_
        refine Vx_ld_crow dX0_longestBy_35 hd ha2 (by omega) ?_
        rw [(RQ_30 h hd (show b < vN (T 2 0) by omega)).1]
        refine V_icmp_le (tgt := 41) dX0_longestBy_36 (by decide) (fun c36 => ?_) (fun c36 => ?_)
        · refine V_iinc dX0_longestBy_41 rfl (iinc_1 _) rfl (Nat.le_of_ble_eq_true rfl) ?_
          refine V_goto (tgt := 4) dX0_longestBy_44 (by decide) ?_
          exact ih (i + 1) _ (by omega) (.inr ⟨b, by omega, ha2⟩) (by rw [← hR]; show itA _ j (i + 1) _ = itA _ j (i + 1) _; congr 1; unfold lgF; rw [if_neg c17, hvb, if_pos c36])
        · refine V_iload_n dX0_longestBy_39 rfl ?_
          refine V_istore_n dX0_longestBy_40 rfl (Nat.le_of_ble_eq_true rfl) (Nat.le_of_ble_eq_true rfl) ?_
          refine V_iinc dX0_longestBy_41 rfl (iinc_1 _) rfl (Nat.le_of_ble_eq_true rfl) ?_
          refine V_goto (tgt := 4) dX0_longestBy_44 (by decide) ?_
          exact ih (i + 1) _ (by omega) (.inr ⟨i, by omega, rfl⟩) (by rw [← hR]; show itA _ j (i + 1) _ = itA _ j (i + 1) _; congr 1; unfold lgF; rw [if_neg c17, hvb, if_neg c36])
  refine V_iconst dX0_longestBy_0 li_m1 ?_
  refine V_istore_n dX0_longestBy_1 rfl (Nat.le_of_ble_eq_true rfl) (Nat.le_of_ble_eq_true rfl) ?_
  refine V_iconst dX0_longestBy_2 li_0 ?_
  refine V_istore_n dX0_longestBy_3 rfl (Nat.le_of_ble_eq_true rfl) (Nat.le_of_ble_eq_true rfl) ?_
  exact L (vN (T 2 0)) 0 (-1) (Nat.zero_add _) (.inl rfl) rfl
set_option maxHeartbeats 4000000 in
theorem x_fitsIn (l : Launch) {T X : xSt} (h : RQ T X) {d : Nat} (hd : d < 24) : Cq l yX0_fitsIn cX0_fitsIn 2 (some .int) 18 [.ref 0, .int (nI d)] (wX X) (some (.int (fitManyF T d))) := by
  refine Cq_start (ls := [some (.ref 0), some (.int (nI d))]) (by decide) rfl (Nat.le_of_ble_eq_true rfl) ?_
  intro Q hQ
  obtain ⟨hl, c0, d0, c1, d1, n2, b2, n5, b5, m2, m5, y0, y1⟩ := RD_x h.1.1 h.1.2.1
  refine V_aload_n dX0_fitsIn_0 rfl ?_
  refine V_iload_n dX0_fitsIn_1 rfl ?_
  refine Vq_v (x_neatBy l h hd) dX0_fitsIn_2 (lw_V q857 q859 qs17 q95 q860) hv_X0_neatBy (by decide) (wX_obj _) cl_X0 rfl rfl (Nat.le_of_ble_eq_true rfl) ?_
  refine Vq_s (j_bitCount l (wX X) (neatF T d)) dX0_fitsIn_5 (lw_S q897 q898 q119 q899) hs_J14_bitCount (by decide) rfl (Nat.le_of_ble_eq_true rfl) ?_
  exact V_ireturn dX0_fitsIn_8 rfl (by rw [bc_neat T d b2]; exact hQ)
set_option maxHeartbeats 4000000 in
theorem x_bestNow (l : Launch) {T X : xSt} (h : RQ T X)  : Cq l yX0_bestNow cX0_bestNow 3 (some .int) 19 [.ref 0] (wX X) (some (.int (bestF T))) := by
  refine Cq_start (ls := [some (.ref 0), none, none]) (by decide) rfl (Nat.le_of_ble_eq_true rfl) ?_
  intro Q hQ
  obtain ⟨hl, c0, d0, c1, d1, n2, b2, n5, b5, m2, m5, y0, y1⟩ := RD_x h.1.1 h.1.2.1
  have L : ∀ (j i : Nat) (a : Nat), i + j = 24 → a < 24 → itA (beF T) j i (nI a) = itA (beF T) 23 1 (nI 0) → ¬ T 2 0 = 0 → V l (yX0_bestNow.cls, cX0_bestNow, 3, (some .int), [], yX0_bestNow.name) (rmD 19 0 0, xF0, Q, xX0) 16 [some (.ref 0), some (.int (nI a)), some (.int (nI i))] [] (wX X) 0 0 := by
    intro j
    induction j with
    | zero =>
      intro i a hij ha hR hz
      refine V_iload_n dX0_bestNow_16 rfl ?_
      refine V_bipush dX0_bestNow_17 lb_24 ?_
      refine V_icmp_ge (tgt := 47) dX0_bestNow_19 (by decide) (fun _ => ?_) (fun c19 => absurd (nI_le (by omega) (by omega)) c19)
      refine V_iload_n dX0_bestNow_47 rfl ?_
      exact V_ireturn dX0_bestNow_48 rfl (by have hR : nI a = _ := hR; unfold bestF at hQ; rw [if_neg hz, ← hR] at hQ; exact hQ)
    | succ j ih =>
      intro i a hij ha hR hz
      refine V_iload_n dX0_bestNow_16 rfl ?_
      refine V_bipush dX0_bestNow_17 lb_24 ?_
      refine V_icmp_ge (tgt := 47) dX0_bestNow_19 (by decide) (fun c19 => absurd c19 (nI_ge (by omega) (by omega))) (fun _ => ?_)
      refine V_aload_n dX0_bestNow_22 rfl ?_
      refine V_iload_n dX0_bestNow_23 rfl ?_
      refine Vq_v (x_fitsIn l h (show i < 24 by omega)) dX0_bestNow_24 (lw_V q893 q895 qs22 q95 q896) hv_X0_fitsIn (by decide) (wX_obj _) cl_X0 rfl rfl (Nat.le_of_ble_eq_true rfl) ?_
      refine V_aload_n dX0_bestNow_27 rfl ?_
      refine V_iload_n dX0_bestNow_28 rfl ?_
      refine Vq_v (x_fitsIn l h ha) dX0_bestNow_29 (lw_V q893 q895 qs22 q95 q896) hv_X0_fitsIn (by decide) (wX_obj _) cl_X0 rfl rfl (Nat.le_of_ble_eq_true rfl) ?_
      refine V_icmp_le (tgt := 39) dX0_bestNow_32 (by decide) (fun c32 => ?_) (fun c32 => ?_)
      · refine V_iload_n dX0_bestNow_39 rfl ?_
        refine V_istore_n dX0_bestNow_40 rfl (Nat.le_of_ble_eq_true rfl) (Nat.le_of_ble_eq_true rfl) ?_
        refine V_iinc dX0_bestNow_41 rfl (iinc_1 _) rfl (Nat.le_of_ble_eq_true rfl) ?_
        refine V_goto (tgt := 16) dX0_bestNow_44 (by decide) ?_
        exact ih (i + 1) a (by omega) ha (by rw [← hR]; show itA _ j (i + 1) _ = itA _ j (i + 1) _; congr 1; unfold beF; rw [vN_nI (by omega), if_pos c32]) hz
      · refine V_iload_n dX0_bestNow_35 rfl ?_
        refine V_goto (tgt := 40) dX0_bestNow_36 (by decide) ?_
        refine V_istore_n dX0_bestNow_40 rfl (Nat.le_of_ble_eq_true rfl) (Nat.le_of_ble_eq_true rfl) ?_
        refine V_iinc dX0_bestNow_41 rfl (iinc_1 _) rfl (Nat.le_of_ble_eq_true rfl) ?_
        refine V_goto (tgt := 16) dX0_bestNow_44 (by decide) ?_
        exact ih (i + 1) i (by omega) (by omega) (by rw [← hR]; show itA _ j (i + 1) _ = itA _ j (i + 1) _; congr 1; unfold beF; rw [vN_nI (by omega), if_neg c32]) hz
  refine V_aload_n dX0_bestNow_0 rfl ?_
  refine V_getf (i := 1) k_X0 dX0_bestNow_1 (by decide) q228 (wX_obj _) rfl ?_
  refine Vq_u (x_manyf0 l h.1.2.1.1 (hl 0 (by decide))) dX0_bestNow_4 (lw_U q658 q659 q661 q662 q96 q663) rfl hs_X1_many (by decide) (.inl ⟨_, _, _, _, (wX_tx0 _), cl_X2, rfl⟩) rfl (Nat.le_of_ble_eq_true rfl) ?_
  rw [h.1.1.2.2.2.2.2.2.1.resolve_right (fun z => by rw [h.1.2.1.1] at z; exact absurd z.1 (by decide +kernel)) |>.2.1]
  refine V_if_ne (tgt := 12) dX0_bestNow_7 (by decide) (fun c7 => ?_) (fun c7 => ?_)
  · refine V_iconst dX0_bestNow_12 li_0 ?_
    refine V_istore_n dX0_bestNow_13 rfl (Nat.le_of_ble_eq_true rfl) (Nat.le_of_ble_eq_true rfl) ?_
    refine V_iconst dX0_bestNow_14 li_1 ?_
    refine V_istore_n dX0_bestNow_15 rfl (Nat.le_of_ble_eq_true rfl) (Nat.le_of_ble_eq_true rfl) ?_
    exact L 23 1 0 (by decide) (by decide) rfl c7
  · refine V_iconst dX0_bestNow_10 li_m1 ?_
    exact V_ireturn dX0_bestNow_11 rfl (by unfold bestF at hQ; rw [if_pos c7] at hQ; exact hQ)
