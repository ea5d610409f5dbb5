/-! texts: a part, the next -/
set_option maxRecDepth 100000
/-- a part of a text is read at a : what must hold -/
def TX (X : xSt) (t len n a T : Nat) : Prop := CB X ∧ X 46 t = nI a ∧ X 0 t = nI T ∧ a ≤ T ∧ T ≤ len ∧ (∀ j, j < len → bd (X 1 (49 * t + j)) 255) ∧ cnt X t = n ∧ std X t = n
theorem CB46 {X : xSt} {t : Nat} {v : Int32} (h : CB X) : CB (mwr X 46 t v) := by
  have e : ∀ q, cnt (mwr X 46 t v) q = cnt X q := fun q => by
    have := @szr_b q
    unfold cnt
    rw [mwr_r _ _ _ _ (by omega)]
  unfold CB
  simp only [e]
  exact h
theorem TX46 {X : xSt} {t len n a T b : Nat} (h : TX X t len n a T) (hb : b ≤ T) : TX (mwr X 46 t (nI b)) t len n b T := by
  obtain ⟨h1, h2, h3, h4, h5, h6, h7, h8⟩ := h
  refine ⟨CB46 h1, mwr_s _ _ _ _, by rw [mwr_r _ _ _ _ (by decide)]; exact h3, hb, h5, fun j hj => by rw [mwr_r _ _ _ _ (by decide)]; exact h6 j hj, ?_, ?_⟩
  · have := @szr_b t
    unfold cnt
    rw [mwr_r _ _ _ _ (by omega)]
    exact h7
  · unfold std
    rw [mwr_r _ _ _ _ (by decide)]
    exact h8
theorem mwr46 (X : xSt) (t : Nat) (u v : Int32) : mwr (mwr X 46 t u) 46 t v = mwr X 46 t v := by
  funext r q
  unfold mwr
  by_cases e : r = 46 ∧ q = t
  · rw [if_pos e, if_pos e]
  · rw [if_neg e, if_neg e, if_neg e]
theorem upw46_0 (X : xSt) (v : Int32) : upw (wX X) 64 (.inr (1, true, txfs (mwr X 46 0 v) 0)) = wX (mwr X 46 0 v) := wX_set (X' := mwr X 46 0 v) rfl (wX_tx0 _) (fun n hn => by rw [dep_46]; exact hn)
theorem upw46_1 (X : xSt) (v : Int32) : upw (wX X) 65 (.inr (2, true, txfs (mwr X 46 1 v) 1)) = wX (mwr X 46 1 v) := wX_set (X' := mwr X 46 1 v) rfl (wX_tx1 _) (fun n hn => by rw [dep_46]; exact hn)
/-- the world with a blank cell behind the last, and at set -/
theorem bl46_0 {X : xSt} {m : Nat} {c : xC} (v : Int32) (hm : 1088 ≤ m) : upw (upw (wX X) m c) 64 (.inr (1, true, txfs (mwr X 46 0 v) 0)) = upw (wX (mwr X 46 0 v)) m c := by
  rw [upw_comm (by omega), upw46_0]
theorem bl46_1 {X : xSt} {m : Nat} {c : xC} (v : Int32) (hm : 1088 ≤ m) : upw (upw (wX X) m c) 65 (.inr (2, true, txfs (mwr X 46 1 v) 1)) = upw (wX (mwr X 46 1 v)) m c := by
  rw [upw_comm (by omega), upw46_1]
/-- what a reading throws: the place p, and the world holds PromiseTailor's but for at -/
def TP (X : xSt) (t : Nat) (sz : Nat) (a : Nat) (g : Int32) : Nat → xW → Prop := fun p w' => nI p = nI a + g ∧ ¬ nI sz ≤ g ∧ ∃ v, ∀ m d, wX (mwr X 46 t v) m = some d → w' m = some d
theorem mwr_self (X : xSt) (r i : Nat) : mwr X r i (X r i) = X := by
  funext r2 i2
  unfold mwr
  by_cases e : r2 = r ∧ i2 = i
  · rw [if_pos e, e.1, e.2]
  · rw [if_neg e]
set_option maxHeartbeats 4000000 in
theorem x_partO0 (l : Launch) {X : xSt} {n a T : Nat} (h : TX X 0 23 n a T) (hn : n < 8) : Cn l yX2_part_2 (ws_ yX2_part_2 cX2_part_2 2 (some (.object "PromiseTailor$Person"))) (rmD 8 3 16, RF 0, (fun r w' => r = some (.ref (1088 + n)) ∧ nI 2 ≤ (rdP n a X).1 ∧ w' = upw (wX (mwr X 46 0 (nI (a + 2)))) (1088 + n) (.inr (4, true, [.ref (soN (sortI (tbF X 0 a))), .int (pas 2 (tbF X 0 (a + 1)))]))), xTorn (TP X 0 2 a (rdP n a X).1)) [.ref 64] (wX X) := by
  refine Cn_start (ls := [some (.ref 64), none]) (by decide) rfl (Nat.le_of_ble_eq_true rfl) (RF_lo (by decide)) ?_
  obtain ⟨h1, h2, h3, h4, h5, h6, h7, h8⟩ := id h
  have hf := fr36_wX h1
  refine V_getsN (v := .ref 900) (fun _ _ _ _ z => z.1) (fun _ z => by cases z; exact ⟨by decide, by decide⟩) dX2_part_2_0 (nw q568 rfl) ?_
  refine V_aload_n dX2_part_2_3 rfl ?_
  refine V_ldcS (i := 1) (by decide) rfl dX2_part_2_4 ?_
  refine V_callU (k' := 2) (n' := 9) (x_passes0 l (X := X) (i := 1) (a := a) (T := T) (by decide) (wX_tx0 _) (wX_by0 _) (wX_q1 _) (wX_b1 _) (fr36_wX h.1) h.2.1 h.2.2.1 h.2.2.2.1 h.2.2.2.2.1 h.2.2.2.2.2.1) dX2_part_2_6 (lw_U q571 q572 q573 q448 q96 q449) rfl hs_X1_passes (xfit_D (Nat.le_of_ble_eq_true rfl) (Nat.le_of_ble_eq_true rfl) (Nat.le_of_ble_eq_true rfl) (Nat.le_of_ble_eq_true rfl)) (.inl ⟨_, _, _, _, (wX_tx0 _), cl_X2, rfl⟩) rfl (Nat.le_of_ble_eq_true rfl) (fun _ z => RF36 z) (okl_c (ok_r (fun z => by have z : F36 _ := z; unfold F36 at z; omega)) (okl_n okl_0)) (oks_c (ok_r (fun z => by have z : F36 _ := z; unfold F36 at z; omega)) oks_0) (fun r w1 g1 => ?_) (fun E q w1 g1 => ?_)
  rotate_left
  · obtain ⟨rfl, rfl, p, e1, e2, e3, e4⟩ := g1
    rw [e2] at e1
    rcases rdP_g (a := a) X hn with ⟨z0, er⟩ | ⟨z0, z1, er⟩ | ⟨z0, z1, er⟩
    · refine Vx_out (fun z hz => nomatch hz) ⟨rfl, rfl, _, e1, ?_, ?_, (X 46 0), (fun m d hd => e4 m d (by rw [show mwr X 46 0 (X 46 0) = X from mwr_self _ _ _] at hd; exact hd))⟩
      · rw [er, nI_add] <;> rfl
      · rw [er]; show ¬ nI 2 ≤ nI 0; decide +kernel
    · exact absurd e3 z0
    · exact absurd e3 z0
  obtain ⟨rfl, u0, rfl⟩ := g1
  rw [upw46_0]
  have u0 : ¬ sortI (tbF X 0 a) = -1 := u0
  have a0 := pas_lt (i := 1) (by decide) h3 h4 (by omega) u0
  have hX1 := TX46 h (b := a + 1) (by omega)
  obtain ⟨j, hj, hjs, hjo⟩ := so_ix u0
  refine V_aald dX2_part_2_9 rfl (wX_SORT _) (v := .ref (soN (sortI (tbF X 0 a)))) (by show vp_in (sortI (tbF X 0 a)) 3; rw [hjs]; exact vp_in_nI hj (by decide)) (by show Value.ref (901 + (sortI (tbF X 0 a)).toNatClampNeg) = _; rw [hjo, hjs, nI_clamp (by omega)]) ?_
  refine V_astore_n dX2_part_2_10 rfl (Nat.le_of_ble_eq_true rfl) (Nat.le_of_ble_eq_true rfl) ?_
  have hso := soN_b (sortI (tbF X 0 a))
  refine V_new (k' := 1) (n' := 7) (fs := [.null, .int 0]) (1088 + n) k_X8 dX2_part_2_11 q574 q575 q114 (by decide +kernel) (wX_per0 _ (by omega) (by rw [hX1.2.2.2.2.2.2.2]; exact Nat.le_refl n)) (.inr (.inl ⟨by omega, by omega⟩)) (fun m d hd => wX_nr hX1.1.2 (tgt_new hX1.1 (q := 0) (by decide) (by rw [hX1.2.2.2.2.2.2.1]; exact Nat.le_refl n) (by omega)) hd) (nel_c (ne_r (by omega)) (nel_c (ne_r (by omega)) nel_0)) nes_0 ⟨by decide, by decide⟩ ?_
  refine V_dup dX2_part_2_14 rfl ?_
  refine V_aload_n dX2_part_2_15 rfl ?_
  refine V_aload_n dX2_part_2_16 rfl ?_
  refine V_ldcS (i := 2) (by decide) rfl dX2_part_2_17 ?_
  refine V_callU (k' := 0) (n' := 0) (x_passes0 l (X := (mwr X 46 0 (nI (a + 1)))) (i := 2) (a := a + 1) (T := T) (by decide) ((upw_ne (by omega)).trans (wX_tx0 _)) ((upw_ne (by omega)).trans (wX_by0 _)) ((upw_ne (by omega)).trans (wX_q2 _)) ((upw_ne (by omega)).trans (wX_b2 _)) ((fr36_wX hX1.1).up (by omega) (fun q hq => xnr_o (nrc nrN (nrc nrI nr0)))) hX1.2.1 hX1.2.2.1 hX1.2.2.2.1 hX1.2.2.2.2.1 hX1.2.2.2.2.2.1) dX2_part_2_19 (lw_U q571 q572 q573 q448 q96 q449) rfl hs_X1_passes (xfit_D (Nat.le_of_ble_eq_true rfl) (Nat.le_of_ble_eq_true rfl) (Nat.le_of_ble_eq_true rfl) (Nat.le_of_ble_eq_true rfl)) (.inl ⟨_, _, _, _, ((upw_ne (by omega)).trans (wX_tx0 _)), cl_X2, rfl⟩) rfl (Nat.le_of_ble_eq_true rfl) (fun _ z => RF36 z) (okl_c (ok_r (fun z => by have z : F36 _ := z; unfold F36 at z; omega)) (okl_c (ok_r (fun z => by have z : F36 _ := z; unfold F36 at z; omega)) okl_0)) (oks_c (ok_r (fun z => by have z : F36 _ := z; unfold F36 at z; omega)) (oks_c (ok_r (fun z => by have z : F36 _ := z; unfold F36 at z; omega)) (oks_c (ok_r (fun z => by have z : F36 _ := z; unfold F36 at z; omega)) oks_0))) (fun r w1 g1 => ?_) (fun E q w1 g1 => ?_)
  rotate_left
  · obtain ⟨rfl, rfl, p, e1, e2, e3, e4⟩ := g1
    rw [e2] at e1
    rw [tb46] at e3
    rcases rdP_g (a := a) X hn with ⟨z0, er⟩ | ⟨z0, z1, er⟩ | ⟨z0, z1, er⟩
    · exact absurd z0 u0
    · refine Vx_out (fun z hz => nomatch hz) ⟨rfl, rfl, _, e1, ?_, ?_, (nI (a + 1)), (fun m d hd => e4 m d ((upw_ne (fun z => by rw [z, wX_per0 _ (by omega) (by unfold std at *; rw [mwr_r _ _ _ _ (by decide)]; omega)] at hd; cases hd)).trans hd))⟩
      · rw [er, nI_add] <;> rfl
      · rw [er]; show ¬ nI 2 ≤ nI 1; decide +kernel
    · exact absurd e3 z1
  obtain ⟨rfl, u1, rfl⟩ := g1
  rw [tb46] at u1
  rw [tb46, bl46_0 _ (by omega), mwr46]
  refine Vr_i (k' := 0) (n' := 0) (x_perI l _ upw_self) dX2_part_2_22 q579 q114 q577 q578 rfl hs_X8_init (by decide) rfl (Nat.le_of_ble_eq_true rfl) (fun _ z => z.elim) (fun _ _ => xok0) (fun _ _ => xok0) ⟨by decide, by decide⟩ ?_
  rw [upw_upw]
  refine V_areturn dX2_part_2_25 rfl (.inl ⟨_, rfl⟩) (.inr ⟨_, rfl⟩) ⟨rfl, ?_, rfl⟩
  rcases rdP_g (a := a) X hn with ⟨z0, er⟩ | ⟨z0, z1, er⟩ | ⟨z0, z1, er⟩
  · exact absurd z0 u0
  · exact absurd z1 u1
  · rw [er]; exact (Int32.le_refl (nI 2))
set_option maxHeartbeats 4000000 in
theorem x_part0 (l : Launch) {X : xSt} {n a T : Nat} (h : TX X 0 23 n a T) (hn : n < 8) : Cn l yX2_part (ws_ yX2_part cX2_part 1 (some (.object "java/lang/Object"))) (rmD 9 3 16, RF 0, (fun r w' => r = some (.ref (1088 + n)) ∧ nI 2 ≤ (rdP n a X).1 ∧ w' = upw (wX (mwr X 46 0 (nI (a + 2)))) (1088 + n) (.inr (4, true, [.ref (soN (sortI (tbF X 0 a))), .int (pas 2 (tbF X 0 (a + 1)))]))), xTorn (TP X 0 2 a (rdP n a X).1)) [.ref 64] (wX X) := by
  refine Cn_start (ls := [some (.ref 64)]) (by decide) rfl (Nat.le_of_ble_eq_true rfl) (RF_lo (by decide)) ?_
  refine V_aload_n dX2_part_0 rfl ?_
  refine V_callV (k' := 0) (n' := 0) (x_partO0 l h hn) dX2_part_1 (lw_V q564 q565 q566 q97 q567) hv_X2_part_2 (xfit_D (Nat.le_of_ble_eq_true rfl) (Nat.le_of_ble_eq_true rfl) (Nat.le_of_ble_eq_true rfl) (Nat.le_of_ble_eq_true rfl)) (wX_tx0 _) cl_X2 rfl rfl (Nat.le_of_ble_eq_true rfl) (fun _ z => z) (okl_c (ok_r (fun z => by have z : RF _ _ := z; unfold RF at z; omega)) okl_0) oks_0 (fun r w1 g1 => ?_) (fun E q w1 g1 => Vx_out (fun z hz => nomatch hz) g1)
  obtain ⟨rfl, g2, g3⟩ := g1
  exact V_areturn dX2_part_4 rfl (.inl ⟨_, rfl⟩) (.inr ⟨_, rfl⟩) ⟨rfl, g2, g3⟩
set_option maxHeartbeats 4000000 in
theorem x_partO1 (l : Launch) {X : xSt} {n a T : Nat} (h : TX X 1 49 n a T) (hn : n < 10) : Cn l yX3_part_2 (ws_ yX3_part_2 cX3_part_2 4 (some (.object "PromiseTailor$Promise"))) (rmD 8 5 32, RF 1, (fun r w' => r = some (.ref (1152 + n)) ∧ nI 4 ≤ (rdQ n a X).1 ∧ w' = upw (wX (mwr X 46 1 (nI (a + 4)))) (1152 + n) (.inr (5, true, [.int (pas 3 (tbF X 1 a)), .int (nI 1 + pas 4 (tbF X 1 (a + 1))), .int (pas 5 (tbF X 1 (a + 2))), .int (pas 5 (tbF X 1 (a + 3)))]))), xTorn (TP X 1 4 a (rdQ n a X).1)) [.ref 65] (wX X) := by
  refine Cn_start (ls := [some (.ref 65), none, none, none]) (by decide) rfl (Nat.le_of_ble_eq_true rfl) (RF_lo (by decide)) ?_
  obtain ⟨h1, h2, h3, h4, h5, h6, h7, h8⟩ := id h
  have hf := fr36_wX h1
  refine V_aload_n dX3_part_2_0 rfl ?_
  refine V_ldcS (i := 3) (by decide) rfl dX3_part_2_1 ?_
  refine V_callU (k' := 4) (n' := 25) (x_passes1 l (X := X) (i := 3) (a := a) (T := T) (by decide) (wX_tx1 _) (wX_by1 _) (wX_q3 _) (wX_b3 _) (fr36_wX h.1) h.2.1 h.2.2.1 h.2.2.2.1 h.2.2.2.2.1 h.2.2.2.2.2.1) dX3_part_2_3 (lw_U q444 q445 q447 q448 q96 q449) rfl hs_X1_passes (xfit_D (Nat.le_of_ble_eq_true rfl) (Nat.le_of_ble_eq_true rfl) (Nat.le_of_ble_eq_true rfl) (Nat.le_of_ble_eq_true rfl)) (.inl ⟨_, _, _, _, (wX_tx1 _), cl_X3, rfl⟩) rfl (Nat.le_of_ble_eq_true rfl) (fun _ z => RF36 z) (okl_c (ok_r (fun z => by have z : F36 _ := z; unfold F36 at z; omega)) (okl_n (okl_n (okl_n okl_0)))) oks_0 (fun r w1 g1 => ?_) (fun E q w1 g1 => ?_)
  rotate_left
  · obtain ⟨rfl, rfl, p, e1, e2, e3, e4⟩ := g1
    rw [e2] at e1
    rcases rdQ_g (a := a) X hn with ⟨z0, er⟩ | ⟨z0, z1, er⟩ | ⟨z0, z1, z2, er⟩ | ⟨z0, z1, z2, z3, er⟩ | ⟨z0, z1, z2, z3, er⟩
    · refine Vx_out (fun z hz => nomatch hz) ⟨rfl, rfl, _, e1, ?_, ?_, (X 46 1), (fun m d hd => e4 m d (by rw [show mwr X 46 1 (X 46 1) = X from mwr_self _ _ _] at hd; exact hd))⟩
      · rw [er, nI_add] <;> rfl
      · rw [er]; show ¬ nI 4 ≤ nI 0; decide +kernel
    · exact absurd e3 z0
    · exact absurd e3 z0
    · exact absurd e3 z0
    · exact absurd e3 z0
  obtain ⟨rfl, u0, rfl⟩ := g1
  rw [upw46_1]
  have a0 := pas_lt (by decide) h3 h4 (by omega) u0
  have hX1 := TX46 h (b := a + 1) (by omega)
  refine V_istore_n dX3_part_2_6 rfl (Nat.le_of_ble_eq_true rfl) (Nat.le_of_ble_eq_true rfl) ?_
  refine V_iconst dX3_part_2_7 li_1 ?_
  refine V_aload_n dX3_part_2_8 rfl ?_
  refine V_ldcS (i := 4) (by decide) rfl dX3_part_2_9 ?_
  refine V_callU (k' := 3) (n' := 18) (x_passes1 l (X := (mwr X 46 1 (nI (a + 1)))) (i := 4) (a := a + 1) (T := T) (by decide) (wX_tx1 _) (wX_by1 _) (wX_q4 _) (wX_b4 _) (fr36_wX hX1.1) hX1.2.1 hX1.2.2.1 hX1.2.2.2.1 hX1.2.2.2.2.1 hX1.2.2.2.2.2.1) dX3_part_2_11 (lw_U q444 q445 q447 q448 q96 q449) rfl hs_X1_passes (xfit_D (Nat.le_of_ble_eq_true rfl) (Nat.le_of_ble_eq_true rfl) (Nat.le_of_ble_eq_true rfl) (Nat.le_of_ble_eq_true rfl)) (.inl ⟨_, _, _, _, (wX_tx1 _), cl_X3, rfl⟩) rfl (Nat.le_of_ble_eq_true rfl) (fun _ z => RF36 z) (okl_c (ok_r (fun z => by have z : F36 _ := z; unfold F36 at z; omega)) (okl_c ok_i (okl_n (okl_n okl_0)))) (oks_c ok_i oks_0) (fun r w1 g1 => ?_) (fun E q w1 g1 => ?_)
  rotate_left
  · obtain ⟨rfl, rfl, p, e1, e2, e3, e4⟩ := g1
    rw [e2] at e1
    rw [tb46] at e3
    rcases rdQ_g (a := a) X hn with ⟨z0, er⟩ | ⟨z0, z1, er⟩ | ⟨z0, z1, z2, er⟩ | ⟨z0, z1, z2, z3, er⟩ | ⟨z0, z1, z2, z3, er⟩
    · exact absurd z0 u0
    · refine Vx_out (fun z hz => nomatch hz) ⟨rfl, rfl, _, e1, ?_, ?_, (nI (a + 1)), (fun m d hd => e4 m d (hd))⟩
      · rw [er, nI_add] <;> rfl
      · rw [er]; show ¬ nI 4 ≤ nI 1; decide +kernel
    · exact absurd e3 z1
    · exact absurd e3 z1
    · exact absurd e3 z1
  obtain ⟨rfl, u1, rfl⟩ := g1
  rw [tb46] at u1
  rw [tb46, upw46_1, mwr46]
  have a1 := pas_lt (by decide) h3 (show a + 1 ≤ T by omega) (by omega) u1
  have hX2 := TX46 h (b := a + 1 + 1) (by omega)
  refine V_iadd dX3_part_2_14 ?_
  refine V_istore_n dX3_part_2_15 rfl (Nat.le_of_ble_eq_true rfl) (Nat.le_of_ble_eq_true rfl) ?_
  refine V_aload_n dX3_part_2_16 rfl ?_
  refine V_ldcS (i := 5) (by decide) rfl dX3_part_2_17 ?_
  refine V_callU (k' := 2) (n' := 11) (x_passes1 l (X := (mwr X 46 1 (nI (a + 2)))) (i := 5) (a := a + 2) (T := T) (by decide) (wX_tx1 _) (wX_by1 _) (wX_q5 _) (wX_b5 _) (fr36_wX hX2.1) hX2.2.1 hX2.2.2.1 hX2.2.2.2.1 hX2.2.2.2.2.1 hX2.2.2.2.2.2.1) dX3_part_2_19 (lw_U q444 q445 q447 q448 q96 q449) rfl hs_X1_passes (xfit_D (Nat.le_of_ble_eq_true rfl) (Nat.le_of_ble_eq_true rfl) (Nat.le_of_ble_eq_true rfl) (Nat.le_of_ble_eq_true rfl)) (.inl ⟨_, _, _, _, (wX_tx1 _), cl_X3, rfl⟩) rfl (Nat.le_of_ble_eq_true rfl) (fun _ z => RF36 z) (okl_c (ok_r (fun z => by have z : F36 _ := z; unfold F36 at z; omega)) (okl_c ok_i (okl_c ok_i (okl_n okl_0)))) oks_0 (fun r w1 g1 => ?_) (fun E q w1 g1 => ?_)
  rotate_left
  · obtain ⟨rfl, rfl, p, e1, e2, e3, e4⟩ := g1
    rw [e2] at e1
    rw [tb46] at e3
    rcases rdQ_g (a := a) X hn with ⟨z0, er⟩ | ⟨z0, z1, er⟩ | ⟨z0, z1, z2, er⟩ | ⟨z0, z1, z2, z3, er⟩ | ⟨z0, z1, z2, z3, er⟩
    · exact absurd z0 u0
    · exact absurd z1 u1
    · refine Vx_out (fun z hz => nomatch hz) ⟨rfl, rfl, _, e1, ?_, ?_, (nI (a + 2)), (fun m d hd => e4 m d (hd))⟩
      · rw [er, nI_add] <;> rfl
      · rw [er]; show ¬ nI 4 ≤ nI 2; decide +kernel
    · exact absurd e3 z2
    · exact absurd e3 z2
  obtain ⟨rfl, u2, rfl⟩ := g1
  rw [tb46] at u2
  rw [tb46, upw46_1, mwr46]
  have a2 := pas_lt (by decide) h3 (show a + 2 ≤ T by omega) (by omega) u2
  have hX3 := TX46 h (b := a + 2 + 1) (by omega)
  refine V_istore_n dX3_part_2_22 rfl (Nat.le_of_ble_eq_true rfl) (Nat.le_of_ble_eq_true rfl) ?_
  refine V_new (k' := 1) (n' := 7) (fs := [.int 0, .int 0, .int 0, .int 0]) (1152 + n) k_X7 dX3_part_2_23 q538 q539 q113 (by decide +kernel) (wX_pro0 _ (by omega) (by rw [hX3.2.2.2.2.2.2.2]; exact Nat.le_refl n)) (.inr (.inl ⟨by omega, by omega⟩)) (fun m d hd => wX_nr hX3.1.2 (tgt_new hX3.1 (q := 1) (by decide) (by rw [hX3.2.2.2.2.2.2.1]; exact Nat.le_refl n) (by omega)) hd) (nel_c (ne_r (by omega)) (nel_c ne_i (nel_c ne_i (nel_c ne_i nel_0)))) nes_0 ⟨by decide, by decide⟩ ?_
  refine V_dup dX3_part_2_26 rfl ?_
  refine V_iload_n dX3_part_2_27 rfl ?_
  refine V_iload_n dX3_part_2_28 rfl ?_
  refine V_iload_n dX3_part_2_29 rfl ?_
  refine V_aload_n dX3_part_2_30 rfl ?_
  refine V_ldcS (i := 5) (by decide) rfl dX3_part_2_31 ?_
  refine V_callU (k' := 0) (n' := 0) (x_passes1 l (X := (mwr X 46 1 (nI (a + 3)))) (i := 5) (a := a + 3) (T := T) (by decide) ((upw_ne (by omega)).trans (wX_tx1 _)) ((upw_ne (by omega)).trans (wX_by1 _)) ((upw_ne (by omega)).trans (wX_q5 _)) ((upw_ne (by omega)).trans (wX_b5 _)) ((fr36_wX hX3.1).up (by omega) (fun q hq => xnr_o (nrc nrI (nrc nrI (nrc nrI (nrc nrI nr0)))))) hX3.2.1 hX3.2.2.1 hX3.2.2.2.1 hX3.2.2.2.2.1 hX3.2.2.2.2.2.1) dX3_part_2_33 (lw_U q444 q445 q447 q448 q96 q449) rfl hs_X1_passes (xfit_D (Nat.le_of_ble_eq_true rfl) (Nat.le_of_ble_eq_true rfl) (Nat.le_of_ble_eq_true rfl) (Nat.le_of_ble_eq_true rfl)) (.inl ⟨_, _, _, _, ((upw_ne (by omega)).trans (wX_tx1 _)), cl_X3, rfl⟩) rfl (Nat.le_of_ble_eq_true rfl) (fun _ z => RF36 z) (okl_c (ok_r (fun z => by have z : F36 _ := z; unfold F36 at z; omega)) (okl_c ok_i (okl_c ok_i (okl_c ok_i okl_0)))) (oks_c ok_i (oks_c ok_i (oks_c ok_i (oks_c (ok_r (fun z => by have z : F36 _ := z; unfold F36 at z; omega)) (oks_c (ok_r (fun z => by have z : F36 _ := z; unfold F36 at z; omega)) oks_0))))) (fun r w1 g1 => ?_) (fun E q w1 g1 => ?_)
  rotate_left
  · obtain ⟨rfl, rfl, p, e1, e2, e3, e4⟩ := g1
    rw [e2] at e1
    rw [tb46] at e3
    rcases rdQ_g (a := a) X hn with ⟨z0, er⟩ | ⟨z0, z1, er⟩ | ⟨z0, z1, z2, er⟩ | ⟨z0, z1, z2, z3, er⟩ | ⟨z0, z1, z2, z3, er⟩
    · exact absurd z0 u0
    · exact absurd z1 u1
    · exact absurd z2 u2
    · refine Vx_out (fun z hz => nomatch hz) ⟨rfl, rfl, _, e1, ?_, ?_, (nI (a + 3)), (fun m d hd => e4 m d ((upw_ne (fun z => by rw [z, wX_pro0 _ (by omega) (by unfold std at *; rw [mwr_r _ _ _ _ (by decide)]; omega)] at hd; cases hd)).trans hd))⟩
      · rw [er, nI_add] <;> rfl
      · rw [er]; show ¬ nI 4 ≤ nI 3; decide +kernel
    · exact absurd e3 z3
  obtain ⟨rfl, u3, rfl⟩ := g1
  rw [tb46] at u3
  rw [tb46, bl46_1 _ (by omega), mwr46]
  refine Vr_i (k' := 0) (n' := 0) (x_proI l _ _ _ _ upw_self) dX3_part_2_36 q542 q113 q540 q541 rfl hs_X7_init (by decide) rfl (Nat.le_of_ble_eq_true rfl) (fun _ z => z.elim) (fun _ _ => xok0) (fun _ _ => xok0) ⟨by decide, by decide⟩ ?_
  rw [upw_upw]
  refine V_areturn dX3_part_2_39 rfl (.inl ⟨_, rfl⟩) (.inr ⟨_, rfl⟩) ⟨rfl, ?_, rfl⟩
  rcases rdQ_g (a := a) X hn with ⟨z0, er⟩ | ⟨z0, z1, er⟩ | ⟨z0, z1, z2, er⟩ | ⟨z0, z1, z2, z3, er⟩ | ⟨z0, z1, z2, z3, er⟩
  · exact absurd z0 u0
  · exact absurd z1 u1
  · exact absurd z2 u2
  · exact absurd z3 u3
  · rw [er]; exact (Int32.le_refl (nI 4))
set_option maxHeartbeats 4000000 in
theorem x_part1 (l : Launch) {X : xSt} {n a T : Nat} (h : TX X 1 49 n a T) (hn : n < 10) : Cn l yX3_part (ws_ yX3_part cX3_part 1 (some (.object "java/lang/Object"))) (rmD 9 5 32, RF 1, (fun r w' => r = some (.ref (1152 + n)) ∧ nI 4 ≤ (rdQ n a X).1 ∧ w' = upw (wX (mwr X 46 1 (nI (a + 4)))) (1152 + n) (.inr (5, true, [.int (pas 3 (tbF X 1 a)), .int (nI 1 + pas 4 (tbF X 1 (a + 1))), .int (pas 5 (tbF X 1 (a + 2))), .int (pas 5 (tbF X 1 (a + 3)))]))), xTorn (TP X 1 4 a (rdQ n a X).1)) [.ref 65] (wX X) := by
  refine Cn_start (ls := [some (.ref 65)]) (by decide) rfl (Nat.le_of_ble_eq_true rfl) (RF_lo (by decide)) ?_
  refine V_aload_n dX3_part_0 rfl ?_
  refine V_callV (k' := 0) (n' := 0) (x_partO1 l h hn) dX3_part_1 (lw_V q439 q440 q441 q101 q442) hv_X3_part_2 (xfit_D (Nat.le_of_ble_eq_true rfl) (Nat.le_of_ble_eq_true rfl) (Nat.le_of_ble_eq_true rfl) (Nat.le_of_ble_eq_true rfl)) (wX_tx1 _) cl_X3 rfl rfl (Nat.le_of_ble_eq_true rfl) (fun _ z => z) (okl_c (ok_r (fun z => by have z : RF _ _ := z; unfold RF at z; omega)) okl_0) oks_0 (fun r w1 g1 => ?_) (fun E q w1 g1 => Vx_out (fun z hz => nomatch hz) g1)
  obtain ⟨rfl, g2, g3⟩ := g1
  exact V_areturn dX3_part_4 rfl (.inl ⟨_, rfl⟩) (.inr ⟨_, rfl⟩) ⟨rfl, g2, g3⟩
