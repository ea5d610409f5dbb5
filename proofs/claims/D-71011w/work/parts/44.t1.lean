/-! texts: type, wipe, undo, length, passes -/
set_option maxRecDepth 100000
section T1
variable {l : Launch} {M : xM} {Sp : xS} {pc : Nat} {ls : List (Option Value)} {st : List Value} {X : xSt} {k n : Nat}
theorem Vt0_put_typed {index : Nat} {x : Int32} (hd : decode M.2.1 pc = .ok (.putfield index, 3)) (hlk : Cond.fieldLink M.1 index (TX2 2).1 (TX2 2).2.1 (TX2 2).2.2.1 ∈ lw_all) (kk : V l M Sp (pc + 3) ls st (wX (mwr X 0 0 x)) k n) : V l M Sp pc ls (.int x :: .ref 64 :: st) (wX X) k n := by
  refine V_putf (i := 2) k_X2 hd (by decide) hlk rfl (wX_tx0 X) (Nat.le_of_ble_eq_true rfl) (fun _ => rfl) (fun _ => rfl) ?_
  rw [wX_set (X' := mwr X 0 0 x) rfl (show _ = some (Sum.inr (1, true, (txfs X 0).set 2 (.int x))) from rfl) (fun n hn => by rw [dep_0]; exact hn)]
  exact kk
theorem Vt0_put_at {index : Nat} {x : Int32} (hd : decode M.2.1 pc = .ok (.putfield index, 3)) (hlk : Cond.fieldLink M.1 index (TX2 3).1 (TX2 3).2.1 (TX2 3).2.2.1 ∈ lw_all) (kk : V l M Sp (pc + 3) ls st (wX (mwr X 46 0 x)) k n) : V l M Sp pc ls (.int x :: .ref 64 :: st) (wX X) k n := by
  refine V_putf (i := 3) k_X2 hd (by decide) hlk rfl (wX_tx0 X) (Nat.le_of_ble_eq_true rfl) (fun _ => rfl) (fun _ => rfl) ?_
  rw [wX_set (X' := mwr X 46 0 x) rfl (show _ = some (Sum.inr (1, true, (txfs X 0).set 3 (.int x))) from rfl) (fun n hn => by rw [dep_46]; exact hn)]
  exact kk
theorem Vt0_put_fresh {index : Nat} {x : Int32} (hd : decode M.2.1 pc = .ok (.putfield index, 3)) (hlk : Cond.fieldLink M.1 index (TX2 4).1 (TX2 4).2.1 (TX2 4).2.2.1 ∈ lw_all) (hx : x = nI 0 ∨ x = nI 1) (kk : V l M Sp (pc + 3) ls st (wX (mwr X 47 0 x)) k n) : V l M Sp pc ls (.int x :: .ref 64 :: st) (wX X) k n := by
  refine V_putf (i := 4) k_X2 hd (by decide) hlk rfl (wX_tx0 X) (Nat.le_of_ble_eq_true rfl) (fun _ => by rcases hx with rfl | rfl; exact nr_0; exact nr_1) (fun _ => by rcases hx with rfl | rfl; show fits .boolean (.int (nI 0)) = true; decide +kernel; show fits .boolean (.int (nI 1)) = true; decide +kernel) ?_
  rw [wX_set (X' := mwr X 47 0 x) rfl (show _ = some (Sum.inr (1, true, (txfs X 0).set 4 (.int x))) from rfl) (fun n hn => by rw [dep_47]; exact hn)]
  exact kk
theorem Vt0_put_fault {index : Nat} {x : Int32} (hd : decode M.2.1 pc = .ok (.putfield index, 3)) (hlk : Cond.fieldLink M.1 index (TX2 5).1 (TX2 5).2.1 (TX2 5).2.2.1 ∈ lw_all) (kk : V l M Sp (pc + 3) ls st (wX (mwr X 48 0 x)) k n) : V l M Sp pc ls (.int x :: .ref 64 :: st) (wX X) k n := by
  refine V_putf (i := 5) k_X2 hd (by decide) hlk rfl (wX_tx0 X) (Nat.le_of_ble_eq_true rfl) (fun _ => rfl) (fun _ => rfl) ?_
  rw [wX_set (X' := mwr X 48 0 x) rfl (show _ = some (Sum.inr (1, true, (txfs X 0).set 5 (.int x))) from rfl) (fun n hn => by rw [dep_48]; exact hn)]
  exact kk
theorem Vt0_bald {i : Int32} {x : Nat} (hd : decode M.2.1 pc = .ok (.baload, 1)) (hi : i = nI x) (hx : x < 23) (kk : V l M Sp (pc + 1) ls (.int (X 1 (49 * 0 + x)).toInt8.toInt32 :: st) (wX X) k n) : V l M Sp pc ls (.int i :: .ref 128 :: st) (wX X) k n := by
  subst hi
  exact V_bald hd (wX_by0 X) (vp_in_nI hx (by decide)) (by rw [nI_clamp (by omega)]; exact cutI_at hx) kk
theorem Vt0_bast {i b : Int32} {x : Nat} (hd : decode M.2.1 pc = .ok (.bastore, 1)) (hi : i = nI x) (hx : x < 23) (kk : V l M Sp (pc + 1) ls st (wX (mwr X 1 (49 * 0 + x) b)) k n) : V l M Sp pc ls (.int b.toInt8.toInt32 :: .int i :: .ref 128 :: st) (wX X) k n := by
  subst hi
  refine V_bast hd (wX_by0 X) (vp_in_nI hx (by decide)) ?_
  rw [pk_vb, nI_clamp (by omega), cutI_up hx, wX_set (X' := mwr X 1 (49 * 0 + x) b) (j := 1) (i := 49 * 0 + x) (v := b) rfl ((wX_by0 _).trans (by rw [cutI_congr]; intro q _; by_cases e : q = x; rw [if_pos e, e, mwr_s]; rw [if_neg e, mwr_q _ _ _ _ (by omega)])) (fun n hn => by rw [dep_1]; omega)]
  exact kk
theorem Vt1_put_typed {index : Nat} {x : Int32} (hd : decode M.2.1 pc = .ok (.putfield index, 3)) (hlk : Cond.fieldLink M.1 index (TX3 2).1 (TX3 2).2.1 (TX3 2).2.2.1 ∈ lw_all) (kk : V l M Sp (pc + 3) ls st (wX (mwr X 0 1 x)) k n) : V l M Sp pc ls (.int x :: .ref 65 :: st) (wX X) k n := by
  refine V_putf (i := 2) k_X3 hd (by decide) hlk rfl (wX_tx1 X) (Nat.le_of_ble_eq_true rfl) (fun _ => rfl) (fun _ => rfl) ?_
  rw [wX_set (X' := mwr X 0 1 x) rfl (show _ = some (Sum.inr (2, true, (txfs X 1).set 2 (.int x))) from rfl) (fun n hn => by rw [dep_0]; exact hn)]
  exact kk
theorem Vt1_put_at {index : Nat} {x : Int32} (hd : decode M.2.1 pc = .ok (.putfield index, 3)) (hlk : Cond.fieldLink M.1 index (TX3 3).1 (TX3 3).2.1 (TX3 3).2.2.1 ∈ lw_all) (kk : V l M Sp (pc + 3) ls st (wX (mwr X 46 1 x)) k n) : V l M Sp pc ls (.int x :: .ref 65 :: st) (wX X) k n := by
  refine V_putf (i := 3) k_X3 hd (by decide) hlk rfl (wX_tx1 X) (Nat.le_of_ble_eq_true rfl) (fun _ => rfl) (fun _ => rfl) ?_
  rw [wX_set (X' := mwr X 46 1 x) rfl (show _ = some (Sum.inr (2, true, (txfs X 1).set 3 (.int x))) from rfl) (fun n hn => by rw [dep_46]; exact hn)]
  exact kk
theorem Vt1_put_fresh {index : Nat} {x : Int32} (hd : decode M.2.1 pc = .ok (.putfield index, 3)) (hlk : Cond.fieldLink M.1 index (TX3 4).1 (TX3 4).2.1 (TX3 4).2.2.1 ∈ lw_all) (hx : x = nI 0 ∨ x = nI 1) (kk : V l M Sp (pc + 3) ls st (wX (mwr X 47 1 x)) k n) : V l M Sp pc ls (.int x :: .ref 65 :: st) (wX X) k n := by
  refine V_putf (i := 4) k_X3 hd (by decide) hlk rfl (wX_tx1 X) (Nat.le_of_ble_eq_true rfl) (fun _ => by rcases hx with rfl | rfl; exact nr_0; exact nr_1) (fun _ => by rcases hx with rfl | rfl; show fits .boolean (.int (nI 0)) = true; decide +kernel; show fits .boolean (.int (nI 1)) = true; decide +kernel) ?_
  rw [wX_set (X' := mwr X 47 1 x) rfl (show _ = some (Sum.inr (2, true, (txfs X 1).set 4 (.int x))) from rfl) (fun n hn => by rw [dep_47]; exact hn)]
  exact kk
theorem Vt1_put_fault {index : Nat} {x : Int32} (hd : decode M.2.1 pc = .ok (.putfield index, 3)) (hlk : Cond.fieldLink M.1 index (TX3 5).1 (TX3 5).2.1 (TX3 5).2.2.1 ∈ lw_all) (kk : V l M Sp (pc + 3) ls st (wX (mwr X 48 1 x)) k n) : V l M Sp pc ls (.int x :: .ref 65 :: st) (wX X) k n := by
  refine V_putf (i := 5) k_X3 hd (by decide) hlk rfl (wX_tx1 X) (Nat.le_of_ble_eq_true rfl) (fun _ => rfl) (fun _ => rfl) ?_
  rw [wX_set (X' := mwr X 48 1 x) rfl (show _ = some (Sum.inr (2, true, (txfs X 1).set 5 (.int x))) from rfl) (fun n hn => by rw [dep_48]; exact hn)]
  exact kk
theorem Vt1_bald {i : Int32} {x : Nat} (hd : decode M.2.1 pc = .ok (.baload, 1)) (hi : i = nI x) (hx : x < 49) (kk : V l M Sp (pc + 1) ls (.int (X 1 (49 * 1 + x)).toInt8.toInt32 :: st) (wX X) k n) : V l M Sp pc ls (.int i :: .ref 129 :: st) (wX X) k n := by
  subst hi
  exact V_bald hd (wX_by1 X) (vp_in_nI hx (by decide)) (by rw [nI_clamp (by omega)]; exact cutI_at hx) kk
theorem Vt1_bast {i b : Int32} {x : Nat} (hd : decode M.2.1 pc = .ok (.bastore, 1)) (hi : i = nI x) (hx : x < 49) (kk : V l M Sp (pc + 1) ls st (wX (mwr X 1 (49 * 1 + x) b)) k n) : V l M Sp pc ls (.int b.toInt8.toInt32 :: .int i :: .ref 129 :: st) (wX X) k n := by
  subst hi
  refine V_bast hd (wX_by1 X) (vp_in_nI hx (by decide)) ?_
  rw [pk_vb, nI_clamp (by omega), cutI_up hx, wX_set (X' := mwr X 1 (49 * 1 + x) b) (j := 1) (i := 49 * 1 + x) (v := b) rfl ((wX_by1 _).trans (by rw [cutI_congr]; intro q _; by_cases e : q = x; rw [if_pos e, e, mwr_s]; rw [if_neg e, mwr_q _ _ _ _ (by omega)])) (fun n hn => by rw [dep_1]; omega)]
  exact kk
end T1
def typX (t : Nat) (b : Int32) (X : xSt) : Int32 × xSt := if X 0 t = capI t then (-4, X) else (X 0 t + nI 1, mwr (mwr (mwr X 1 (49 * t + vN (X 0 t)) b) 0 t (X 0 t + nI 1)) 47 t (nI 0))
def wipX (t : Nat) (X : xSt) : xSt := mwr (mwr X 0 t (nI 0)) 47 t (nI 0)
def undX (t : Nat) (X : xSt) : Int32 × xSt := if X 0 t = 0 then (-3, X) else (X 0 t - nI 1, mwr (mwr X 0 t (X 0 t - nI 1)) 47 t (nI 0))
set_option maxHeartbeats 4000000 in
theorem x_type0 (l : Launch) {X : xSt} (hT : bd (X 0 0) 23) (b : Int32) : Cy l yX1_type (ws_ yX1_type cX1_type 2 (some .int)) 0 [.ref 64, .int b] X (fun r X' => ∃ x, r = some (.int x) ∧ x = (typX 0 b X).1 ∧ X' = (typX 0 b X).2) := by
  refine Cz_start (ls := [some (.ref 64), some (.int b)]) (by decide) rfl (Nat.le_of_ble_eq_true rfl) (fun _ _ _ h => h) ?_
  intro Q hQ
  have hv := bd_v hT (by decide)
  refine V_aload_n dX1_type_0 rfl ?_
  refine V_getf (i := 2) k_X2 dX1_type_1 (by decide) q170 (wX_tx0 _) rfl ?_
  refine V_aload_n dX1_type_4 rfl ?_
  refine V_getf (i := 0) k_X2 dX1_type_5 (by decide) q168 (wX_tx0 _) rfl ?_
  refine V_alen dX1_type_8 (wX_by0 _) ?_
  refine V_icmp_ne (tgt := 15) dX1_type_9 (by decide) (fun c9 => ?_) (fun c9 => ?_)
  · refine V_aload_n dX1_type_15 rfl ?_
    refine V_getf (i := 0) k_X2 dX1_type_16 (by decide) q168 (wX_tx0 _) rfl ?_
    refine V_aload_n dX1_type_19 rfl ?_
    refine V_getf (i := 2) k_X2 dX1_type_20 (by decide) q170 (wX_tx0 _) rfl ?_
    refine V_iload_n dX1_type_23 rfl ?_
    refine V_i2b dX1_type_24 rfl ?_
    refine Vt0_bast dX1_type_25 hv.1 (by have h5 : vN (X 0 0) ≠ 23 := (fun z => c9 (by rw [hv.1, z])); omega) ?_
    refine V_aload_n dX1_type_26 rfl ?_
    refine V_dup dX1_type_27 rfl ?_
    refine V_getf (i := 2) k_X2 dX1_type_28 (by decide) q170 (wX_tx0 _) rfl ?_
    refine V_iconst dX1_type_31 li_1 ?_
    refine V_iadd dX1_type_32 ?_
    refine Vt0_put_typed dX1_type_33 q170 ?_
    refine V_aload_n dX1_type_36 rfl ?_
    refine V_iconst dX1_type_37 li_0 ?_
    refine Vt0_put_fresh dX1_type_38 q172 (by first | exact .inl rfl | exact .inr rfl) ?_
    refine V_aload_n dX1_type_41 rfl ?_
    refine V_getf (i := 2) k_X2 dX1_type_42 (by decide) q170 (wX_tx0 _) rfl ?_
    exact V_ireturn dX1_type_45 rfl (hQ _ _ ⟨_, rfl, by unfold typX; rw [if_neg (show ¬ X 0 0 = capI 0 from c9)]; exact ⟨rfl, rfl⟩⟩)
  · refine V_bipush dX1_type_12 lb_m4 ?_
    exact V_ireturn dX1_type_14 rfl (hQ _ _ ⟨_, rfl, by unfold typX; rw [if_pos (show X 0 0 = capI 0 from c9)]; exact ⟨rfl, rfl⟩⟩)
set_option maxHeartbeats 4000000 in
theorem x_wipe0 (l : Launch) {X : xSt} : Cy l yX1_wipe (ws_ yX1_wipe cX1_wipe 2 (some .int)) 0 [.ref 64] X (fun r X' => ∃ x, r = some (.int x) ∧ x = X 0 0 ∧ X' = wipX 0 X) := by
  refine Cz_start (ls := [some (.ref 64), none]) (by decide) rfl (Nat.le_of_ble_eq_true rfl) (fun _ _ _ h => h) ?_
  intro Q hQ
  refine V_aload_n dX1_wipe_0 rfl ?_
  refine V_getf (i := 2) k_X2 dX1_wipe_1 (by decide) q170 (wX_tx0 _) rfl ?_
  refine V_istore_n dX1_wipe_4 rfl (Nat.le_of_ble_eq_true rfl) (Nat.le_of_ble_eq_true rfl) ?_
  refine V_aload_n dX1_wipe_5 rfl ?_
  refine V_iconst dX1_wipe_6 li_0 ?_
  refine Vt0_put_typed dX1_wipe_7 q170 ?_
  refine V_aload_n dX1_wipe_10 rfl ?_
  refine V_iconst dX1_wipe_11 li_0 ?_
  refine Vt0_put_fresh dX1_wipe_12 q172 (by first | exact .inl rfl | exact .inr rfl) ?_
  refine V_iload_n dX1_wipe_15 rfl ?_
  exact V_ireturn dX1_wipe_16 rfl (hQ _ _ ⟨_, rfl, ⟨rfl, rfl⟩⟩)
set_option maxHeartbeats 4000000 in
theorem x_undo0 (l : Launch) {X : xSt} : Cy l yX1_undo (ws_ yX1_undo cX1_undo 1 (some .int)) 0 [.ref 64] X (fun r X' => ∃ x, r = some (.int x) ∧ x = (undX 0 X).1 ∧ X' = (undX 0 X).2) := by
  refine Cz_start (ls := [some (.ref 64)]) (by decide) rfl (Nat.le_of_ble_eq_true rfl) (fun _ _ _ h => h) ?_
  intro Q hQ
  refine V_aload_n dX1_undo_0 rfl ?_
  refine V_getf (i := 2) k_X2 dX1_undo_1 (by decide) q170 (wX_tx0 _) rfl ?_
  refine V_if_ne (tgt := 10) dX1_undo_4 (by decide) (fun c4 => ?_) (fun c4 => ?_)
  · refine V_aload_n dX1_undo_10 rfl ?_
    refine V_dup dX1_undo_11 rfl ?_
    refine V_getf (i := 2) k_X2 dX1_undo_12 (by decide) q170 (wX_tx0 _) rfl ?_
    refine V_iconst dX1_undo_15 li_1 ?_
    refine V_isub dX1_undo_16 ?_
    refine Vt0_put_typed dX1_undo_17 q170 ?_
    refine V_aload_n dX1_undo_20 rfl ?_
    refine V_iconst dX1_undo_21 li_0 ?_
    refine Vt0_put_fresh dX1_undo_22 q172 (by first | exact .inl rfl | exact .inr rfl) ?_
    refine V_aload_n dX1_undo_25 rfl ?_
    refine V_getf (i := 2) k_X2 dX1_undo_26 (by decide) q170 (wX_tx0 _) rfl ?_
    exact V_ireturn dX1_undo_29 rfl (hQ _ _ ⟨_, rfl, by unfold undX; rw [if_neg c4]; exact ⟨rfl, rfl⟩⟩)
  · refine V_bipush dX1_undo_7 lb_m3 ?_
    exact V_ireturn dX1_undo_9 rfl (hQ _ _ ⟨_, rfl, by unfold undX; rw [if_pos c4]; exact ⟨rfl, rfl⟩⟩)
set_option maxHeartbeats 4000000 in
theorem x_length0 (l : Launch) (X : xSt) : Cq l yX1_length cX1_length 1 (some .int) 0 [.ref 64] (wX X) (some (.int (X 0 0))) := by
  refine Cq_start (ls := [some (.ref 64)]) (by decide) rfl (Nat.le_of_ble_eq_true rfl) ?_
  intro Q hQ
  refine V_aload_n dX1_length_0 rfl ?_
  refine V_getf (i := 2) k_X2 dX1_length_1 (by decide) q170 (wX_tx0 _) rfl ?_
  exact V_ireturn dX1_length_4 rfl hQ
set_option maxHeartbeats 4000000 in
theorem x_type1 (l : Launch) {X : xSt} (hT : bd (X 0 1) 49) (b : Int32) : Cy l yX1_type (ws_ yX1_type cX1_type 2 (some .int)) 0 [.ref 65, .int b] X (fun r X' => ∃ x, r = some (.int x) ∧ x = (typX 1 b X).1 ∧ X' = (typX 1 b X).2) := by
  refine Cz_start (ls := [some (.ref 65), some (.int b)]) (by decide) rfl (Nat.le_of_ble_eq_true rfl) (fun _ _ _ h => h) ?_
  intro Q hQ
  have hv := bd_v hT (by decide)
  refine V_aload_n dX1_type_0 rfl ?_
  refine V_getf (i := 2) k_X3 dX1_type_1 (by decide) q170 (wX_tx1 _) rfl ?_
  refine V_aload_n dX1_type_4 rfl ?_
  refine V_getf (i := 0) k_X3 dX1_type_5 (by decide) q168 (wX_tx1 _) rfl ?_
  refine V_alen dX1_type_8 (wX_by1 _) ?_
  refine V_icmp_ne (tgt := 15) dX1_type_9 (by decide) (fun c9 => ?_) (fun c9 => ?_)
  · refine V_aload_n dX1_type_15 rfl ?_
    refine V_getf (i := 0) k_X3 dX1_type_16 (by decide) q168 (wX_tx1 _) rfl ?_
    refine V_aload_n dX1_type_19 rfl ?_
    refine V_getf (i := 2) k_X3 dX1_type_20 (by decide) q170 (wX_tx1 _) rfl ?_
    refine V_iload_n dX1_type_23 rfl ?_
    refine V_i2b dX1_type_24 rfl ?_
    refine Vt1_bast dX1_type_25 hv.1 (by have h5 : vN (X 0 1) ≠ 49 := (fun z => c9 (by rw [hv.1, z])); omega) ?_
    refine V_aload_n dX1_type_26 rfl ?_
    refine V_dup dX1_type_27 rfl ?_
    refine V_getf (i := 2) k_X3 dX1_type_28 (by decide) q170 (wX_tx1 _) rfl ?_
    refine V_iconst dX1_type_31 li_1 ?_
    refine V_iadd dX1_type_32 ?_
    refine Vt1_put_typed dX1_type_33 q170 ?_
    refine V_aload_n dX1_type_36 rfl ?_
    refine V_iconst dX1_type_37 li_0 ?_
    refine Vt1_put_fresh dX1_type_38 q172 (by first | exact .inl rfl | exact .inr rfl) ?_
    refine V_aload_n dX1_type_41 rfl ?_
    refine V_getf (i := 2) k_X3 dX1_type_42 (by decide) q170 (wX_tx1 _) rfl ?_
    exact V_ireturn dX1_type_45 rfl (hQ _ _ ⟨_, rfl, by unfold typX; rw [if_neg (show ¬ X 0 1 = capI 1 from c9)]; exact ⟨rfl, rfl⟩⟩)
  · refine V_bipush dX1_type_12 lb_m4 ?_
    exact V_ireturn dX1_type_14 rfl (hQ _ _ ⟨_, rfl, by unfold typX; rw [if_pos (show X 0 1 = capI 1 from c9)]; exact ⟨rfl, rfl⟩⟩)
set_option maxHeartbeats 4000000 in
theorem x_wipe1 (l : Launch) {X : xSt} : Cy l yX1_wipe (ws_ yX1_wipe cX1_wipe 2 (some .int)) 0 [.ref 65] X (fun r X' => ∃ x, r = some (.int x) ∧ x = X 0 1 ∧ X' = wipX 1 X) := by
  refine Cz_start (ls := [some (.ref 65), none]) (by decide) rfl (Nat.le_of_ble_eq_true rfl) (fun _ _ _ h => h) ?_
  intro Q hQ
  refine V_aload_n dX1_wipe_0 rfl ?_
  refine V_getf (i := 2) k_X3 dX1_wipe_1 (by decide) q170 (wX_tx1 _) rfl ?_
  refine V_istore_n dX1_wipe_4 rfl (Nat.le_of_ble_eq_true rfl) (Nat.le_of_ble_eq_true rfl) ?_
  refine V_aload_n dX1_wipe_5 rfl ?_
  refine V_iconst dX1_wipe_6 li_0 ?_
  refine Vt1_put_typed dX1_wipe_7 q170 ?_
  refine V_aload_n dX1_wipe_10 rfl ?_
  refine V_iconst dX1_wipe_11 li_0 ?_
  refine Vt1_put_fresh dX1_wipe_12 q172 (by first | exact .inl rfl | exact .inr rfl) ?_
  refine V_iload_n dX1_wipe_15 rfl ?_
  exact V_ireturn dX1_wipe_16 rfl (hQ _ _ ⟨_, rfl, ⟨rfl, rfl⟩⟩)
set_option maxHeartbeats 4000000 in
theorem x_undo1 (l : Launch) {X : xSt} : Cy l yX1_undo (ws_ yX1_undo cX1_undo 1 (some .int)) 0 [.ref 65] X (fun r X' => ∃ x, r = some (.int x) ∧ x = (undX 1 X).1 ∧ X' = (undX 1 X).2) := by
  refine Cz_start (ls := [some (.ref 65)]) (by decide) rfl (Nat.le_of_ble_eq_true rfl) (fun _ _ _ h => h) ?_
  intro Q hQ
  refine V_aload_n dX1_undo_0 rfl ?_
  refine V_getf (i := 2) k_X3 dX1_undo_1 (by decide) q170 (wX_tx1 _) rfl ?_
  refine V_if_ne (tgt := 10) dX1_undo_4 (by decide) (fun c4 => ?_) (fun c4 => ?_)
  · refine V_aload_n dX1_undo_10 rfl ?_
    refine V_dup dX1_undo_11 rfl ?_
    refine V_getf (i := 2) k_X3 dX1_undo_12 (by decide) q170 (wX_tx1 _) rfl ?_
    refine V_iconst dX1_undo_15 li_1 ?_
    refine V_isub dX1_undo_16 ?_
    refine Vt1_put_typed dX1_undo_17 q170 ?_
    refine V_aload_n dX1_undo_20 rfl ?_
    refine V_iconst dX1_undo_21 li_0 ?_
    refine Vt1_put_fresh dX1_undo_22 q172 (by first | exact .inl rfl | exact .inr rfl) ?_
    refine V_aload_n dX1_undo_25 rfl ?_
    refine V_getf (i := 2) k_X3 dX1_undo_26 (by decide) q170 (wX_tx1 _) rfl ?_
    exact V_ireturn dX1_undo_29 rfl (hQ _ _ ⟨_, rfl, by unfold undX; rw [if_neg c4]; exact ⟨rfl, rfl⟩⟩)
  · refine V_bipush dX1_undo_7 lb_m3 ?_
    exact V_ireturn dX1_undo_9 rfl (hQ _ _ ⟨_, rfl, by unfold undX; rw [if_pos c4]; exact ⟨rfl, rfl⟩⟩)
set_option maxHeartbeats 4000000 in
theorem x_length1 (l : Launch) (X : xSt) : Cq l yX1_length cX1_length 1 (some .int) 0 [.ref 65] (wX X) (some (.int (X 0 1))) := by
  refine Cq_start (ls := [some (.ref 65)]) (by decide) rfl (Nat.le_of_ble_eq_true rfl) ?_
  intro Q hQ
  refine V_aload_n dX1_length_0 rfl ?_
  refine V_getf (i := 2) k_X3 dX1_length_1 (by decide) q170 (wX_tx1 _) rfl ?_
  exact V_ireturn dX1_length_4 rfl hQ
/-- which of the text in quotes i the byte b is, or -1 -/
def pas (i : Nat) (b : Int32) : Int32 := match i with
  | 0 => if b = nI 59 then nI 0 else -1
  | 1 => sortI b
  | 2 => if nI 48 ≤ b ∧ b ≤ nI 57 then b - nI 48 else -1
  | 3 => if nI 97 ≤ b ∧ b ≤ nI 104 then b - nI 97 else -1
  | 4 => if nI 49 ≤ b ∧ b ≤ nI 57 then b - nI 49 else -1
  | _ => if nI 97 ≤ b ∧ b ≤ nI 120 then b - nI 97 else -1
theorem pas_ix : ∀ i, i < 6 → ∀ c, c < 256 → ixK (qAt i) (nI c).toInt8.toInt32 (qLen i) 0 = pas i (nI c) := by decide +kernel
theorem pas_m1 : ∀ i, i < 6 → pas i (-1) = -1 := by decide +kernel
theorem byte_c : ∀ c, c < 256 → (nI c).toInt8.toInt32 &&& nI 255 = nI c := by decide +kernel
theorem qLen_b : ∀ i, i < 6 → 0 < qLen i ∧ qLen i < 2 ^ 31 := by decide +kernel
theorem tn0_nr {a : Nat} {x : Int32} : xnr a (tn0 x) := xnr_o (nrc nrN (nrc nrN (nrc nrN (nrc nrN (nrc nrN (nrc nrI (nrc nrI nr0)))))))
def F36 (n : Nat) : Prop := 1536 ≤ n
theorem F36_lo : ∀ n, 900 ≤ n → n < 950 → ¬ F36 n := fun n h1 h2 h => by unfold F36 at h; omega
/-- the name 1536 and those from 1590 on are nobody's -/
def fr36 (w : xW) : Prop := w 1536 = none ∧ (∀ n c, w n = some c → xnr 1536 c) ∧ tmpFree w
theorem fr36.up {w : xW} {q : Nat} {c : xC} (h : fr36 w) (hq : q < 1536) (hc : ∀ a, 1536 ≤ a → xnr a c) : fr36 (upw w q c) := by
  refine ⟨by rw [upw_ne (by omega)]; exact h.1, fun n d hd => ?_, h.2.2.up (by omega) (fun a ha => hc a (by omega))⟩
  by_cases e : n = q
  · rw [e, upw_self] at hd
    cases hd
    exact hc 1536 (by decide)
  · rw [upw_ne e] at hd
    exact h.2.1 n d hd
/-- what is thrown: Torn at a place, the world behind it -/
def xTorn (P : Nat → xW → Prop) (E : String) (q : Nat) (w' : xW) : Prop := E = RX6 ∧ q = 1536 ∧ ∃ a, w' 1536 = some (tn0 (nI a)) ∧ P a w'
set_option maxHeartbeats 4000000 in
theorem x_passes0 (l : Launch) {X : xSt} {w : xW} {a i T : Nat} (hi : i < 6) (hT : w 64 = some (.inr (1, true, txfs X 0))) (hB : w 128 = some (.inl (.byte, true, 23, cutI 23 (fun i => (X 1 (49 * 0 + i)).toInt8.toInt32)))) (hq : w (910 + i) = some (.inr (11, false, [.ref (920 + i), .int 0]))) (hb : w (920 + i) = some (.inl (.byte, false, qLen i, fun j => .int (qAt i j)))) (hfr : fr36 w)
    (ha : X 46 0 = nI a) (ht : X 0 0 = nI T) (haT : a ≤ T) (hTN : T ≤ 23) (hbt : ∀ j, j < 23 → bd (X 1 (49 * 0 + j)) 255) : Cn l yX1_passes (ws_ yX1_passes cX1_passes 3 (some .int)) (rmD 6 1 7, F36, (fun r w' => r = some (.int (pas i (tbF X 0 a))) ∧ ¬ pas i (tbF X 0 a) = -1 ∧ w' = upw w 64 (.inr (1, true, txfs (mwr X 46 0 (nI (a + 1))) 0))), xTorn (fun p w' => p = a ∧ pas i (tbF X 0 a) = -1 ∧ ∀ m d, w m = some d → w' m = some d)) [.ref 64, .ref (910 + i)] w := by
  refine Cn_start (ls := [some (.ref 64), some (.ref (910 + i)), none]) (by decide) rfl (Nat.le_of_ble_eq_true rfl) F36_lo ?_
  have hql := qLen_b i hi
  have L32 : ∀ v, v = pas i (tbF X 0 a) → V l (yX1_passes.cls, cX1_passes, 3, (some .int), [], yX1_passes.name) (rmD 6 1 7, F36, (fun r w' => r = some (.int (pas i (tbF X 0 a))) ∧ ¬ pas i (tbF X 0 a) = -1 ∧ w' = upw w 64 (.inr (1, true, txfs (mwr X 46 0 (nI (a + 1))) 0))), xTorn (fun p w' => p = a ∧ pas i (tbF X 0 a) = -1 ∧ ∀ m d, w m = some d → w' m = some d)) 32 [some (.ref 64), some (.ref (910 + i)), none] [.int v] w 1 7 := by
    intro v hv
    refine V_istore_n dX1_passes_32 rfl (Nat.le_of_ble_eq_true rfl) (Nat.le_of_ble_eq_true rfl) ?_
    refine V_iload_n dX1_passes_33 rfl ?_
    refine V_iconst dX1_passes_34 li_m1 ?_
    refine V_icmp_ne (tgt := 50) dX1_passes_35 (by decide) (fun c35 => ?_) (fun c35 => ?_)
    · refine V_aload_n dX1_passes_50 rfl ?_
      refine V_dup dX1_passes_51 rfl ?_
      refine V_getf (i := 3) k_X2 dX1_passes_52 (by decide) q171 hT rfl ?_
      refine V_iconst dX1_passes_55 li_1 ?_
      refine V_iadd dX1_passes_56 ?_
      refine V_putf (i := 3) k_X2 dX1_passes_57 (by decide) q171 rfl hT (Nat.le_of_ble_eq_true rfl) (fun _ => rfl) (fun _ => rfl) ?_
      refine V_iload_n dX1_passes_60 rfl ?_
      exact V_ireturn dX1_passes_61 rfl ⟨by rw [hv], by rw [← hv]; exact c35, by rw [ha, nI_add]; rfl⟩
    · refine V_new (k' := 0) (n' := 0) (fs := [.null, .null, .null, .null, .null, .int 0, .int 0]) 1536 k_X6 dX1_passes_38 q355 q368 q106 (by decide +kernel) hfr.1 (Nat.le_refl _) hfr.2.1 (nel_c (ne_r (by decide)) (nel_c (ne_r (by omega)) (nel_c ne_i nel_0))) nes_0 ⟨by decide, by decide⟩ ?_
      refine V_dup dX1_passes_41 rfl ?_
      refine V_aload_n dX1_passes_42 rfl ?_
      refine V_getf (i := 3) k_X2 dX1_passes_43 (by decide) q171 ((upw_ne (by decide)).trans hT) rfl ?_
      have hf2 : tmpFree (upw w 1536 (tn0 0)) := hfr.2.2.up (by decide) (fun _ _ => tn0_nr)
      refine Vr_i (k' := 0) (n' := 0) (x_torn l _ upw_self (by decide) hf2) dX1_passes_46 q409 q106 q407 q408 rfl hs_X6_init (by decide) rfl (Nat.le_of_ble_eq_true rfl) (fun n h => Nat.le_trans (by decide) h) (okl_c (ok_r (by unfold tmpF; decide)) (okl_c (ok_r (by unfold tmpF; omega)) (okl_c ok_i okl_0))) (oks_c (ok_r (by unfold tmpF; decide)) oks_0) ⟨by decide, by decide⟩ ?_
      rw [upw_upw]
      refine V_athrow dX1_passes_49 upw_self cl_X6 rfl ?_
      refine Vx_out (fun z hz => nomatch hz) ?_
      exact ⟨rfl, rfl, a, by rw [ha]; exact upw_self, rfl, by rw [← hv]; exact c35, fun m d hd => by rw [upw_ne (fun z => by rw [z, hfr.1] at hd; cases hd)]; exact hd⟩
  refine V_aload_n dX1_passes_0 rfl ?_
  refine V_getf (i := 3) k_X2 dX1_passes_1 (by decide) q171 hT rfl ?_
  refine V_aload_n dX1_passes_4 rfl ?_
  refine V_getf (i := 2) k_X2 dX1_passes_5 (by decide) q170 hT rfl ?_
  refine V_icmp_ne (tgt := 15) dX1_passes_8 (by decide) (fun c8 => ?_) (fun c8 => ?_)
  · refine V_aload_n dX1_passes_15 rfl ?_
    refine V_aload_n dX1_passes_16 rfl ?_
    refine V_getf (i := 0) k_X2 dX1_passes_17 (by decide) q168 hT rfl ?_
    refine V_aload_n dX1_passes_20 rfl ?_
    refine V_getf (i := 3) k_X2 dX1_passes_21 (by decide) q171 hT rfl ?_
    have hlt : a < T := Nat.lt_of_le_of_ne haT (fun z => c8 (by rw [ha, ht, z]))
    obtain ⟨c, hc, hcx⟩ := hbt a (by omega)
    rw [ha]
    refine V_bald dX1_passes_24 hB (vp_in_nI (show a < 23 by omega) (by decide)) (by rw [nI_clamp (by omega)]; exact cutI_at (by omega)) ?_
    rw [hcx]
    refine V_sipush dX1_passes_25 ls_255 ?_
    refine V_iand dX1_passes_28 ?_
    rw [byte_c c (by omega)]
    refine Vq_v (j_ix l hq hb hql.2 hql.1 c (by omega)) dX1_passes_29 (lw_V q450 q451 q452 q107 q453) hv_J5_indexOf (by decide) hq cl_J5 rfl rfl (Nat.le_of_ble_eq_true rfl) ?_
    exact L32 _ (by rw [pas_ix i hi c (by omega), show tbF X 0 a = nI c from (if_neg (by rw [ht]; exact nI_ge hlt (by omega))).trans hcx])
  · refine V_iconst dX1_passes_11 li_m1 ?_
    refine V_goto (tgt := 32) dX1_passes_12 (by decide) ?_
    exact L32 _ (by rw [show tbF X 0 a = -1 from if_pos (by rw [← ha, ← c8]; exact Int32.le_refl _)]; exact (pas_m1 i hi).symm)
set_option maxHeartbeats 4000000 in
theorem x_passes1 (l : Launch) {X : xSt} {w : xW} {a i T : Nat} (hi : i < 6) (hT : w 65 = some (.inr (2, true, txfs X 1))) (hB : w 129 = some (.inl (.byte, true, 49, cutI 49 (fun i => (X 1 (49 * 1 + i)).toInt8.toInt32)))) (hq : w (910 + i) = some (.inr (11, false, [.ref (920 + i), .int 0]))) (hb : w (920 + i) = some (.inl (.byte, false, qLen i, fun j => .int (qAt i j)))) (hfr : fr36 w)
    (ha : X 46 1 = nI a) (ht : X 0 1 = nI T) (haT : a ≤ T) (hTN : T ≤ 49) (hbt : ∀ j, j < 49 → bd (X 1 (49 * 1 + j)) 255) : Cn l yX1_passes (ws_ yX1_passes cX1_passes 3 (some .int)) (rmD 6 1 7, F36, (fun r w' => r = some (.int (pas i (tbF X 1 a))) ∧ ¬ pas i (tbF X 1 a) = -1 ∧ w' = upw w 65 (.inr (2, true, txfs (mwr X 46 1 (nI (a + 1))) 1))), xTorn (fun p w' => p = a ∧ pas i (tbF X 1 a) = -1 ∧ ∀ m d, w m = some d → w' m = some d)) [.ref 65, .ref (910 + i)] w := by
  refine Cn_start (ls := [some (.ref 65), some (.ref (910 + i)), none]) (by decide) rfl (Nat.le_of_ble_eq_true rfl) F36_lo ?_
  have hql := qLen_b i hi
  have L32 : ∀ v, v = pas i (tbF X 1 a) → V l (yX1_passes.cls, cX1_passes, 3, (some .int), [], yX1_passes.name) (rmD 6 1 7, F36, (fun r w' => r = some (.int (pas i (tbF X 1 a))) ∧ ¬ pas i (tbF X 1 a) = -1 ∧ w' = upw w 65 (.inr (2, true, txfs (mwr X 46 1 (nI (a + 1))) 1))), xTorn (fun p w' => p = a ∧ pas i (tbF X 1 a) = -1 ∧ ∀ m d, w m = some d → w' m = some d)) 32 [some (.ref 65), some (.ref (910 + i)), none] [.int v] w 1 7 := by
    intro v hv
    refine V_istore_n dX1_passes_32 rfl (Nat.le_of_ble_eq_true rfl) (Nat.le_of_ble_eq_true rfl) ?_
    refine V_iload_n dX1_passes_33 rfl ?_
    refine V_iconst dX1_passes_34 li_m1 ?_
    refine V_icmp_ne (tgt := 50) dX1_passes_35 (by decide) (fun c35 => ?_) (fun c35 => ?_)
    · refine V_aload_n dX1_passes_50 rfl ?_
      refine V_dup dX1_passes_51 rfl ?_
      refine V_getf (i := 3) k_X3 dX1_passes_52 (by decide) q171 hT rfl ?_
      refine V_iconst dX1_passes_55 li_1 ?_
      refine V_iadd dX1_passes_56 ?_
      refine V_putf (i := 3) k_X3 dX1_passes_57 (by decide) q171 rfl hT (Nat.le_of_ble_eq_true rfl) (fun _ => rfl) (fun _ => rfl) ?_
      refine V_iload_n dX1_passes_60 rfl ?_
      exact V_ireturn dX1_passes_61 rfl ⟨by rw [hv], by rw [← hv]; exact c35, by rw [ha, nI_add]; rfl⟩
    · refine V_new (k' := 0) (n' := 0) (fs := [.null, .null, .null, .null, .null, .int 0, .int 0]) 1536 k_X6 dX1_passes_38 q355 q368 q106 (by decide +kernel) hfr.1 (Nat.le_refl _) hfr.2.1 (nel_c (ne_r (by decide)) (nel_c (ne_r (by omega)) (nel_c ne_i nel_0))) nes_0 ⟨by decide, by decide⟩ ?_
      refine V_dup dX1_passes_41 rfl ?_
      refine V_aload_n dX1_passes_42 rfl ?_
      refine V_getf (i := 3) k_X3 dX1_passes_43 (by decide) q171 ((upw_ne (by decide)).trans hT) rfl ?_
      have hf2 : tmpFree (upw w 1536 (tn0 0)) := hfr.2.2.up (by decide) (fun _ _ => tn0_nr)
      refine Vr_i (k' := 0) (n' := 0) (x_torn l _ upw_self (by decide) hf2) dX1_passes_46 q409 q106 q407 q408 rfl hs_X6_init (by decide) rfl (Nat.le_of_ble_eq_true rfl) (fun n h => Nat.le_trans (by decide) h) (okl_c (ok_r (by unfold tmpF; decide)) (okl_c (ok_r (by unfold tmpF; omega)) (okl_c ok_i okl_0))) (oks_c (ok_r (by unfold tmpF; decide)) oks_0) ⟨by decide, by decide⟩ ?_
      rw [upw_upw]
      refine V_athrow dX1_passes_49 upw_self cl_X6 rfl ?_
      refine Vx_out (fun z hz => nomatch hz) ?_
      exact ⟨rfl, rfl, a, by rw [ha]; exact upw_self, rfl, by rw [← hv]; exact c35, fun m d hd => by rw [upw_ne (fun z => by rw [z, hfr.1] at hd; cases hd)]; exact hd⟩
  refine V_aload_n dX1_passes_0 rfl ?_
  refine V_getf (i := 3) k_X3 dX1_passes_1 (by decide) q171 hT rfl ?_
  refine V_aload_n dX1_passes_4 rfl ?_
  refine V_getf (i := 2) k_X3 dX1_passes_5 (by decide) q170 hT rfl ?_
  refine V_icmp_ne (tgt := 15) dX1_passes_8 (by decide) (fun c8 => ?_) (fun c8 => ?_)
  · refine V_aload_n dX1_passes_15 rfl ?_
    refine V_aload_n dX1_passes_16 rfl ?_
    refine V_getf (i := 0) k_X3 dX1_passes_17 (by decide) q168 hT rfl ?_
    refine V_aload_n dX1_passes_20 rfl ?_
    refine V_getf (i := 3) k_X3 dX1_passes_21 (by decide) q171 hT rfl ?_
    have hlt : a < T := Nat.lt_of_le_of_ne haT (fun z => c8 (by rw [ha, ht, z]))
    obtain ⟨c, hc, hcx⟩ := hbt a (by omega)
    rw [ha]
    refine V_bald dX1_passes_24 hB (vp_in_nI (show a < 49 by omega) (by decide)) (by rw [nI_clamp (by omega)]; exact cutI_at (by omega)) ?_
    rw [hcx]
    refine V_sipush dX1_passes_25 ls_255 ?_
    refine V_iand dX1_passes_28 ?_
    rw [byte_c c (by omega)]
    refine Vq_v (j_ix l hq hb hql.2 hql.1 c (by omega)) dX1_passes_29 (lw_V q450 q451 q452 q107 q453) hv_J5_indexOf (by decide) hq cl_J5 rfl rfl (Nat.le_of_ble_eq_true rfl) ?_
    exact L32 _ (by rw [pas_ix i hi c (by omega), show tbF X 1 a = nI c from (if_neg (by rw [ht]; exact nI_ge hlt (by omega))).trans hcx])
  · refine V_iconst dX1_passes_11 li_m1 ?_
    refine V_goto (tgt := 32) dX1_passes_12 (by decide) ?_
    exact L32 _ (by rw [show tbF X 1 a = -1 from if_pos (by rw [← ha, ← c8]; exact Int32.le_refl _)]; exact (pas_m1 i hi).symm)
