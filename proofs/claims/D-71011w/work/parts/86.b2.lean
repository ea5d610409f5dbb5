/-! PromiseTailor's side: sheets in themselves -/
set_option maxRecDepth 100000
/-- a sheet's form -/
def fm (X : xSt) (s : Nat) : Nat := if X 40 s = 0 then 0 else if X 40 s = nI 1 then 1 else 2
/-- sheet s has a row, of form K -/
def SR (K : Nat) (X : xSt) (s : Nat) : Prop := s < 4 ∧ ¬ X 39 s = 0 ∧ fm X s = K ∧ bd (X 41 s) 60
theorem sh_ob {K : Nat} {X : xSt} {s : Nat} (h : SR K X s) : wX X (768 + s) = some (.inr (6, true, [.ref (832 + s)])) := by
  rw [wX_sh X h.1, if_neg h.2.1]
theorem sh_z {K : Nat} {X : xSt} {s : Nat} (h : SR K X s) : X 41 s = nI (vN (X 41 s)) ∧ vN (X 41 s) ≤ 60 := bd_v h.2.2.2 (by decide)
theorem sh_ty {X : xSt} {s : Nat} : shTy X s = if fm X s = 0 then .byte else if fm X s = 1 then .short else .int := by
  unfold shTy fm
  by_cases a : X 40 s = 0
  · rw [if_pos a, if_pos a, if_pos rfl]
  · rw [if_neg a, if_neg a]
    by_cases b : X 40 s = nI 1
    · rw [if_pos b, if_pos b, if_neg (by decide), if_pos rfl]
    · rw [if_neg b, if_neg b, if_neg (by decide), if_neg (by decide)]
theorem sh_hi {X : xSt} (h : CB X) : ∀ n c, wX X n = some c → xnr 1536 c := fun n c hc => wX_nr h.2 (tgt_hi h (Nat.le_refl _)) hc
theorem sh_row0 {X : xSt} {s : Nat} (h : SR 0 X s) : wX X (832 + s) = some (.inl (.byte, true, vN (X 41 s), cutI (vN (X 41 s)) (fun i => X 42 (60 * s + i)))) := by
  rw [wX_row X ⟨h.1, h.2.1⟩, sh_ty, h.2.2.1, Nat.min_eq_right (sh_z h).2]
  rfl
theorem sh_is0 {X : xSt} {s : Nat} (h : SR 0 X s) : xIs (wX X) (832 + s) "[B" := .inr ⟨_, _, _, sh_row0 h, by decide⟩
theorem sh_wr0 {X : xSt} {s : Nat} (h : SR 0 X s) {i : Nat} (hi : i < vN (X 41 s)) (v : Int32) : upw (wX X) (832 + s) (.inl (.byte, true, vN (X 41 s), cutI (vN (X 41 s)) (fun q => if q = i then v else X 42 (60 * s + q)))) = wX (mwr X 42 (60 * s + i) v) := by
  have h' : SR 0 (mwr X 42 (60 * s + i) v) s := by
    refine ⟨h.1, ?_, ?_, ?_⟩
    · rw [mwr_r _ _ _ _ (by decide)]; exact h.2.1
    · unfold fm; rw [mwr_r _ _ _ _ (by decide)]; exact h.2.2.1
    · rw [mwr_r _ _ _ _ (by decide)]; exact h.2.2.2
  have hz := (sh_z h).2
  have hs := h.1
  refine wX_set rfl ?_ (fun n hn => by rw [dep_42]; omega)
  rw [sh_row0 h', mwr_r _ _ _ _ (show 41 ≠ 42 by decide)]
  exact congrArg (fun z => some (Sum.inl (FieldType.byte, true, vN (X 41 s), z))) (cutI_congr fun q _ => mwr_ite2 X 42 (60 * s) i q v)
theorem sh_row1 {X : xSt} {s : Nat} (h : SR 1 X s) : wX X (832 + s) = some (.inl (.short, true, vN (X 41 s), cutI (vN (X 41 s)) (fun i => X 42 (60 * s + i)))) := by
  rw [wX_row X ⟨h.1, h.2.1⟩, sh_ty, h.2.2.1, Nat.min_eq_right (sh_z h).2]
  rfl
theorem sh_is1 {X : xSt} {s : Nat} (h : SR 1 X s) : xIs (wX X) (832 + s) "[S" := .inr ⟨_, _, _, sh_row1 h, by decide⟩
theorem sh_wr1 {X : xSt} {s : Nat} (h : SR 1 X s) {i : Nat} (hi : i < vN (X 41 s)) (v : Int32) : upw (wX X) (832 + s) (.inl (.short, true, vN (X 41 s), cutI (vN (X 41 s)) (fun q => if q = i then v else X 42 (60 * s + q)))) = wX (mwr X 42 (60 * s + i) v) := by
  have h' : SR 1 (mwr X 42 (60 * s + i) v) s := by
    refine ⟨h.1, ?_, ?_, ?_⟩
    · rw [mwr_r _ _ _ _ (by decide)]; exact h.2.1
    · unfold fm; rw [mwr_r _ _ _ _ (by decide)]; exact h.2.2.1
    · rw [mwr_r _ _ _ _ (by decide)]; exact h.2.2.2
  have hz := (sh_z h).2
  have hs := h.1
  refine wX_set rfl ?_ (fun n hn => by rw [dep_42]; omega)
  rw [sh_row1 h', mwr_r _ _ _ _ (show 41 ≠ 42 by decide)]
  exact congrArg (fun z => some (Sum.inl (FieldType.short, true, vN (X 41 s), z))) (cutI_congr fun q _ => mwr_ite2 X 42 (60 * s) i q v)
theorem sh_row2 {X : xSt} {s : Nat} (h : SR 2 X s) : wX X (832 + s) = some (.inl (.int, true, vN (X 41 s), cutI (vN (X 41 s)) (fun i => X 42 (60 * s + i)))) := by
  rw [wX_row X ⟨h.1, h.2.1⟩, sh_ty, h.2.2.1, Nat.min_eq_right (sh_z h).2]
  rfl
theorem sh_is2 {X : xSt} {s : Nat} (h : SR 2 X s) : xIs (wX X) (832 + s) "[I" := .inr ⟨_, _, _, sh_row2 h, by decide⟩
theorem sh_wr2 {X : xSt} {s : Nat} (h : SR 2 X s) {i : Nat} (hi : i < vN (X 41 s)) (v : Int32) : upw (wX X) (832 + s) (.inl (.int, true, vN (X 41 s), cutI (vN (X 41 s)) (fun q => if q = i then v else X 42 (60 * s + q)))) = wX (mwr X 42 (60 * s + i) v) := by
  have h' : SR 2 (mwr X 42 (60 * s + i) v) s := by
    refine ⟨h.1, ?_, ?_, ?_⟩
    · rw [mwr_r _ _ _ _ (by decide)]; exact h.2.1
    · unfold fm; rw [mwr_r _ _ _ _ (by decide)]; exact h.2.2.1
    · rw [mwr_r _ _ _ _ (by decide)]; exact h.2.2.2
  have hz := (sh_z h).2
  have hs := h.1
  refine wX_set rfl ?_ (fun n hn => by rw [dep_42]; omega)
  rw [sh_row2 h', mwr_r _ _ _ _ (show 41 ≠ 42 by decide)]
  exact congrArg (fun z => some (Sum.inl (FieldType.int, true, vN (X 41 s), z))) (cutI_congr fun q _ => mwr_ite2 X 42 (60 * s) i q v)
set_option maxHeartbeats 400000 in
theorem x_shty0 (l : Launch) {X : xSt} {s : Nat} (h : SR 0 X s) : Cq l yX4_type cX4_type 1 (some .int) 0 [.ref (768 + s)] (wX X) (some (.int (nI 0))) := by
  refine Cq_start (ls := [some (.ref (768 + s))]) (by decide) rfl (Nat.le_of_ble_eq_true rfl) ?_
  intro Q hQ
  refine V_aload_n dX4_type_0 rfl ?_
  refine V_getf (i := 0) k_X4 dX4_type_1 (by decide) q221 (sh_ob h) rfl ?_
  refine V_instE dX4_type_4 q776 (sh_is0 h) ?_
  refine V_if_eq (tgt := 14) dX4_type_7 (by decide) (fun c7 => absurd c7 (by decide)) (fun _ => ?_)
  refine V_iconst dX4_type_10 li_0 ?_
  refine V_goto (tgt := 29) dX4_type_11 (by decide) ?_
  exact V_ireturn dX4_type_29 rfl hQ
set_option maxHeartbeats 400000 in
theorem x_shsz0 (l : Launch) {X : xSt} {s : Nat} (h : SR 0 X s) : Cq l yX4_size cX4_size 1 (some .int) 1 [.ref (768 + s)] (wX X) (some (.int (X 41 s))) := by
  refine Cq_start (ls := [some (.ref (768 + s))]) (by decide) rfl (Nat.le_of_ble_eq_true rfl) ?_
  intro Q hQ
  refine V_aload_n dX4_size_0 rfl ?_
  refine Vq_v (x_shty0 l h) dX4_size_1 (lw_V q772 q773 q774 q102 q775) hv_X4_type (by decide) (sh_ob h) cl_X4 rfl rfl (Nat.le_of_ble_eq_true rfl) ?_
  refine V_lookup (off := 28) (tgt := 32) dX4_size_4 (by decide +kernel) (by decide +kernel) (by decide) ?_
  refine V_aload_n dX4_size_32 rfl ?_
  refine V_getf (i := 0) k_X4 dX4_size_33 (by decide) q221 (sh_ob h) rfl ?_
  refine V_castE dX4_size_36 q776 (sh_is0 h) ?_
  refine V_alen dX4_size_39 (sh_row0 h) ?_
  rw [← (sh_z h).1]
  exact V_ireturn dX4_size_40 rfl hQ
set_option maxHeartbeats 400000 in
theorem x_shit0 (l : Launch) {X : xSt} {s i : Nat} (h : SR 0 X s) (hi : i < vN (X 41 s)) : Cq l yX4_item cX4_item 3 (some .int) 0 [.ref (768 + s), .int (nI 0), .int (nI i)] (wX X) (some (.int (X 42 (60 * s + i)))) := by
  refine Cq_start (ls := [some (.ref (768 + s)), some (.int (nI 0)), some (.int (nI i))]) (by decide) rfl (Nat.le_of_ble_eq_true rfl) ?_
  intro Q hQ
  have hz := (sh_z h).2
  refine V_iload_n dX4_item_0 rfl ?_
  refine V_lookup (off := 27) (tgt := 28) dX4_item_1 (by decide +kernel) (by decide +kernel) (by decide) ?_
  refine V_aload_n dX4_item_28 rfl ?_
  refine V_getf (i := 0) k_X4 dX4_item_29 (by decide) q221 (sh_ob h) rfl ?_
  refine V_castE dX4_item_32 q776 (sh_is0 h) ?_
  refine V_iload_n dX4_item_35 rfl ?_
  refine V_bald dX4_item_36 (sh_row0 h) (vp_in_nI hi (by omega)) (by rw [nI_clamp (by omega)]; exact cutI_at hi) ?_
  exact V_ireturn dX4_item_37 rfl hQ
set_option maxHeartbeats 400000 in
theorem x_shly0 (l : Launch) {X : xSt} {s i : Nat} (h : SR 0 X s) (hi : i < vN (X 41 s)) (v : Int32) : Cy l yX4_lay (ws_ yX4_lay cX4_lay 4 none) 0 [.ref (768 + s), .int (nI 0), .int (nI i), .int v] X (fun r X' => r = none ∧ X' = mwr X 42 (60 * s + i) (v.toInt8.toInt32)) := by
  refine Cz_start (ls := [some (.ref (768 + s)), some (.int (nI 0)), some (.int (nI i)), some (.int v)]) (by decide) rfl (Nat.le_of_ble_eq_true rfl) (fun _ _ _ h => h) ?_
  intro Q hQ
  have hz := (sh_z h).2
  refine V_iload_n dX4_lay_0 rfl ?_
  refine V_lookup (off := 27) (tgt := 28) dX4_lay_1 (by decide +kernel) (by decide +kernel) (by decide) ?_
  refine V_aload_n dX4_lay_28 rfl ?_
  refine V_getf (i := 0) k_X4 dX4_lay_29 (by decide) q221 (sh_ob h) rfl ?_
  refine V_castE dX4_lay_32 q776 (sh_is0 h) ?_
  refine V_iload_n dX4_lay_35 rfl ?_
  refine V_iload_n dX4_lay_36 rfl ?_
  refine V_i2b dX4_lay_37 rfl ?_
  refine V_bast dX4_lay_38 (sh_row0 h) (vp_in_nI hi (by omega)) ?_
  rw [pk_vb, nI_clamp (by omega), cutI_up hi, sh_wr0 h hi]
  refine V_goto (tgt := 66) dX4_lay_39 (by decide) ?_
  exact V_vreturn dX4_lay_66 rfl (hQ _ _ ⟨rfl, rfl⟩)
set_option maxHeartbeats 400000 in
theorem x_shty1 (l : Launch) {X : xSt} {s : Nat} (h : SR 1 X s) : Cq l yX4_type cX4_type 1 (some .int) 0 [.ref (768 + s)] (wX X) (some (.int (nI 1))) := by
  refine Cq_start (ls := [some (.ref (768 + s))]) (by decide) rfl (Nat.le_of_ble_eq_true rfl) ?_
  intro Q hQ
  refine V_aload_n dX4_type_0 rfl ?_
  refine V_getf (i := 0) k_X4 dX4_type_1 (by decide) q221 (sh_ob h) rfl ?_
  refine V_instNo dX4_type_4 q776 (by decide) (sh_is1 h) ?_
  refine V_if_eq (tgt := 14) dX4_type_7 (by decide) (fun _ => ?_) (fun c7 => absurd (by rfl) c7)
  refine V_aload_n dX4_type_14 rfl ?_
  refine V_getf (i := 0) k_X4 dX4_type_15 (by decide) q221 (sh_ob h) rfl ?_
  refine V_instE dX4_type_18 q777 (sh_is1 h) ?_
  refine V_if_eq (tgt := 28) dX4_type_21 (by decide) (fun c21 => absurd c21 (by decide)) (fun _ => ?_)
  refine V_iconst dX4_type_24 li_1 ?_
  refine V_goto (tgt := 29) dX4_type_25 (by decide) ?_
  exact V_ireturn dX4_type_29 rfl hQ
set_option maxHeartbeats 400000 in
theorem x_shsz1 (l : Launch) {X : xSt} {s : Nat} (h : SR 1 X s) : Cq l yX4_size cX4_size 1 (some .int) 1 [.ref (768 + s)] (wX X) (some (.int (X 41 s))) := by
  refine Cq_start (ls := [some (.ref (768 + s))]) (by decide) rfl (Nat.le_of_ble_eq_true rfl) ?_
  intro Q hQ
  refine V_aload_n dX4_size_0 rfl ?_
  refine Vq_v (x_shty1 l h) dX4_size_1 (lw_V q772 q773 q774 q102 q775) hv_X4_type (by decide) (sh_ob h) cl_X4 rfl rfl (Nat.le_of_ble_eq_true rfl) ?_
  refine V_lookup (off := 37) (tgt := 41) dX4_size_4 (by decide +kernel) (by decide +kernel) (by decide) ?_
  refine V_aload_n dX4_size_41 rfl ?_
  refine V_getf (i := 0) k_X4 dX4_size_42 (by decide) q221 (sh_ob h) rfl ?_
  refine V_castE dX4_size_45 q777 (sh_is1 h) ?_
  refine V_alen dX4_size_48 (sh_row1 h) ?_
  rw [← (sh_z h).1]
  exact V_ireturn dX4_size_49 rfl hQ
set_option maxHeartbeats 400000 in
theorem x_shit1 (l : Launch) {X : xSt} {s i : Nat} (h : SR 1 X s) (hi : i < vN (X 41 s)) : Cq l yX4_item cX4_item 3 (some .int) 0 [.ref (768 + s), .int (nI 1), .int (nI i)] (wX X) (some (.int (X 42 (60 * s + i)))) := by
  refine Cq_start (ls := [some (.ref (768 + s)), some (.int (nI 1)), some (.int (nI i))]) (by decide) rfl (Nat.le_of_ble_eq_true rfl) ?_
  intro Q hQ
  have hz := (sh_z h).2
  refine V_iload_n dX4_item_0 rfl ?_
  refine V_lookup (off := 37) (tgt := 38) dX4_item_1 (by decide +kernel) (by decide +kernel) (by decide) ?_
  refine V_aload_n dX4_item_38 rfl ?_
  refine V_getf (i := 0) k_X4 dX4_item_39 (by decide) q221 (sh_ob h) rfl ?_
  refine V_castE dX4_item_42 q777 (sh_is1 h) ?_
  refine V_iload_n dX4_item_45 rfl ?_
  refine V_sald dX4_item_46 (sh_row1 h) (vp_in_nI hi (by omega)) (by rw [nI_clamp (by omega)]; exact cutI_at hi) ?_
  exact V_ireturn dX4_item_47 rfl hQ
set_option maxHeartbeats 400000 in
theorem x_shly1 (l : Launch) {X : xSt} {s i : Nat} (h : SR 1 X s) (hi : i < vN (X 41 s)) (v : Int32) : Cy l yX4_lay (ws_ yX4_lay cX4_lay 4 none) 0 [.ref (768 + s), .int (nI 1), .int (nI i), .int v] X (fun r X' => r = none ∧ X' = mwr X 42 (60 * s + i) (v.toInt16.toInt32)) := by
  refine Cz_start (ls := [some (.ref (768 + s)), some (.int (nI 1)), some (.int (nI i)), some (.int v)]) (by decide) rfl (Nat.le_of_ble_eq_true rfl) (fun _ _ _ h => h) ?_
  intro Q hQ
  have hz := (sh_z h).2
  refine V_iload_n dX4_lay_0 rfl ?_
  refine V_lookup (off := 41) (tgt := 42) dX4_lay_1 (by decide +kernel) (by decide +kernel) (by decide) ?_
  refine V_aload_n dX4_lay_42 rfl ?_
  refine V_getf (i := 0) k_X4 dX4_lay_43 (by decide) q221 (sh_ob h) rfl ?_
  refine V_castE dX4_lay_46 q777 (sh_is1 h) ?_
  refine V_iload_n dX4_lay_49 rfl ?_
  refine V_iload_n dX4_lay_50 rfl ?_
  refine V_i2s dX4_lay_51 rfl ?_
  refine V_sast dX4_lay_52 (sh_row1 h) (vp_in_nI hi (by omega)) ?_
  rw [pk_vs, nI_clamp (by omega), cutI_up hi, sh_wr1 h hi]
  refine V_goto (tgt := 66) dX4_lay_53 (by decide) ?_
  exact V_vreturn dX4_lay_66 rfl (hQ _ _ ⟨rfl, rfl⟩)
set_option maxHeartbeats 400000 in
theorem x_shty2 (l : Launch) {X : xSt} {s : Nat} (h : SR 2 X s) : Cq l yX4_type cX4_type 1 (some .int) 0 [.ref (768 + s)] (wX X) (some (.int (nI 2))) := by
  refine Cq_start (ls := [some (.ref (768 + s))]) (by decide) rfl (Nat.le_of_ble_eq_true rfl) ?_
  intro Q hQ
  refine V_aload_n dX4_type_0 rfl ?_
  refine V_getf (i := 0) k_X4 dX4_type_1 (by decide) q221 (sh_ob h) rfl ?_
  refine V_instNo dX4_type_4 q776 (by decide) (sh_is2 h) ?_
  refine V_if_eq (tgt := 14) dX4_type_7 (by decide) (fun _ => ?_) (fun c7 => absurd (by rfl) c7)
  refine V_aload_n dX4_type_14 rfl ?_
  refine V_getf (i := 0) k_X4 dX4_type_15 (by decide) q221 (sh_ob h) rfl ?_
  refine V_instNo dX4_type_18 q777 (by decide) (sh_is2 h) ?_
  refine V_if_eq (tgt := 28) dX4_type_21 (by decide) (fun _ => ?_) (fun c21 => absurd (by rfl) c21)
  refine V_iconst dX4_type_28 li_2 ?_
  exact V_ireturn dX4_type_29 rfl hQ
set_option maxHeartbeats 400000 in
theorem x_shsz2 (l : Launch) {X : xSt} {s : Nat} (h : SR 2 X s) : Cq l yX4_size cX4_size 1 (some .int) 1 [.ref (768 + s)] (wX X) (some (.int (X 41 s))) := by
  refine Cq_start (ls := [some (.ref (768 + s))]) (by decide) rfl (Nat.le_of_ble_eq_true rfl) ?_
  intro Q hQ
  refine V_aload_n dX4_size_0 rfl ?_
  refine Vq_v (x_shty2 l h) dX4_size_1 (lw_V q772 q773 q774 q102 q775) hv_X4_type (by decide) (sh_ob h) cl_X4 rfl rfl (Nat.le_of_ble_eq_true rfl) ?_
  refine V_lookup (off := 46) (tgt := 50) dX4_size_4 (by decide +kernel) (by decide +kernel) (by decide) ?_
  refine V_aload_n dX4_size_50 rfl ?_
  refine V_getf (i := 0) k_X4 dX4_size_51 (by decide) q221 (sh_ob h) rfl ?_
  refine V_castE dX4_size_54 q778 (sh_is2 h) ?_
  refine V_alen dX4_size_57 (sh_row2 h) ?_
  rw [← (sh_z h).1]
  exact V_ireturn dX4_size_58 rfl hQ
set_option maxHeartbeats 400000 in
theorem x_shit2 (l : Launch) {X : xSt} {s i : Nat} (h : SR 2 X s) (hi : i < vN (X 41 s)) : Cq l yX4_item cX4_item 3 (some .int) 0 [.ref (768 + s), .int (nI 2), .int (nI i)] (wX X) (some (.int (X 42 (60 * s + i)))) := by
  refine Cq_start (ls := [some (.ref (768 + s)), some (.int (nI 2)), some (.int (nI i))]) (by decide) rfl (Nat.le_of_ble_eq_true rfl) ?_
  intro Q hQ
  have hz := (sh_z h).2
  refine V_iload_n dX4_item_0 rfl ?_
  refine V_lookup (off := 47) (tgt := 48) dX4_item_1 (by decide +kernel) (by decide +kernel) (by decide) ?_
  refine V_aload_n dX4_item_48 rfl ?_
  refine V_getf (i := 0) k_X4 dX4_item_49 (by decide) q221 (sh_ob h) rfl ?_
  refine V_castE dX4_item_52 q778 (sh_is2 h) ?_
  refine V_iload_n dX4_item_55 rfl ?_
  refine V_iald dX4_item_56 (sh_row2 h) (vp_in_nI hi (by omega)) (by rw [nI_clamp (by omega)]; exact cutI_at hi) ?_
  exact V_ireturn dX4_item_57 rfl hQ
set_option maxHeartbeats 400000 in
theorem x_shly2 (l : Launch) {X : xSt} {s i : Nat} (h : SR 2 X s) (hi : i < vN (X 41 s)) (v : Int32) : Cy l yX4_lay (ws_ yX4_lay cX4_lay 4 none) 0 [.ref (768 + s), .int (nI 2), .int (nI i), .int v] X (fun r X' => r = none ∧ X' = mwr X 42 (60 * s + i) (v)) := by
  refine Cz_start (ls := [some (.ref (768 + s)), some (.int (nI 2)), some (.int (nI i)), some (.int v)]) (by decide) rfl (Nat.le_of_ble_eq_true rfl) (fun _ _ _ h => h) ?_
  intro Q hQ
  have hz := (sh_z h).2
  refine V_iload_n dX4_lay_0 rfl ?_
  refine V_lookup (off := 55) (tgt := 56) dX4_lay_1 (by decide +kernel) (by decide +kernel) (by decide) ?_
  refine V_aload_n dX4_lay_56 rfl ?_
  refine V_getf (i := 0) k_X4 dX4_lay_57 (by decide) q221 (sh_ob h) rfl ?_
  refine V_castE dX4_lay_60 q778 (sh_is2 h) ?_
  refine V_iload_n dX4_lay_63 rfl ?_
  refine V_iload_n dX4_lay_64 rfl ?_
  refine V_iast dX4_lay_65 (sh_row2 h) (vp_in_nI hi (by omega)) ?_
  rw [nI_clamp (by omega), cutI_up hi, sh_wr2 h hi]
  exact V_vreturn dX4_lay_66 rfl (hQ _ _ ⟨rfl, rfl⟩)
def xThr (E0 : String) (X : xSt) (E : String) (q : Nat) (w' : xW) : Prop := E = E0 ∧ q = 1536 ∧ w' = wX X
abbrev xNo : Option Value → xW → Prop := fun _ _ => False
theorem x_shitC01 (l : Launch) (hl : l.stackTraces = false) {X : xSt} {s : Nat} (h : SR 0 X s) (hcb : CB X) (i : Int32) : Cn l yX4_item (ws_ yX4_item cX4_item 3 (some .int)) (rmD 0 3 310, F36, xNo, xThr "java/lang/ClassCastException" X) [.ref (768 + s), .int (nI 1), .int i] (wX X) := by
  refine Cn_start (ls := [some (.ref (768 + s)), some (.int (nI 1)), some (.int i)]) (by decide) rfl (Nat.le_of_ble_eq_true rfl) F36_lo ?_
  have hs := h.1
  refine V_iload_n dX4_item_0 rfl ?_
  refine V_lookup (off := 37) (tgt := 38) dX4_item_1 (by decide +kernel) (by decide +kernel) (by decide) ?_
  refine V_aload_n dX4_item_38 rfl ?_
  refine V_getf (i := 0) k_X4 dX4_item_39 (by decide) q221 (sh_ob h) rfl ?_
  refine V_castNo dX4_item_42 q777 (by decide) (by decide) (by decide) (sh_is0 h) (fun tx e1 e2 => ?_)
  refine V_thrCCE (k' := 0) (n' := 0) hl e1 e2 ⟨Nat.le_of_ble_eq_true rfl, Nat.le_of_ble_eq_true rfl⟩ (Nat.le_of_ble_eq_true rfl) (wX_far X (by decide)) (Nat.le_refl _) (sh_hi hcb) (nel_c (ne_r (by omega)) (nel_c ne_i (nel_c ne_i nel_0))) (nes_c (ne_r (by omega)) nes_0) ⟨Nat.le_of_ble_eq_true rfl, Nat.le_of_ble_eq_true rfl⟩ ?_
  exact Vx_out (fun z hz => nomatch hz) ⟨rfl, rfl, rfl⟩
theorem x_shitC02 (l : Launch) (hl : l.stackTraces = false) {X : xSt} {s : Nat} (h : SR 0 X s) (hcb : CB X) (i : Int32) : Cn l yX4_item (ws_ yX4_item cX4_item 3 (some .int)) (rmD 0 3 310, F36, xNo, xThr "java/lang/ClassCastException" X) [.ref (768 + s), .int (nI 2), .int i] (wX X) := by
  refine Cn_start (ls := [some (.ref (768 + s)), some (.int (nI 2)), some (.int i)]) (by decide) rfl (Nat.le_of_ble_eq_true rfl) F36_lo ?_
  have hs := h.1
  refine V_iload_n dX4_item_0 rfl ?_
  refine V_lookup (off := 47) (tgt := 48) dX4_item_1 (by decide +kernel) (by decide +kernel) (by decide) ?_
  refine V_aload_n dX4_item_48 rfl ?_
  refine V_getf (i := 0) k_X4 dX4_item_49 (by decide) q221 (sh_ob h) rfl ?_
  refine V_castNo dX4_item_52 q778 (by decide) (by decide) (by decide) (sh_is0 h) (fun tx e1 e2 => ?_)
  refine V_thrCCE (k' := 0) (n' := 0) hl e1 e2 ⟨Nat.le_of_ble_eq_true rfl, Nat.le_of_ble_eq_true rfl⟩ (Nat.le_of_ble_eq_true rfl) (wX_far X (by decide)) (Nat.le_refl _) (sh_hi hcb) (nel_c (ne_r (by omega)) (nel_c ne_i (nel_c ne_i nel_0))) (nes_c (ne_r (by omega)) nes_0) ⟨Nat.le_of_ble_eq_true rfl, Nat.le_of_ble_eq_true rfl⟩ ?_
  exact Vx_out (fun z hz => nomatch hz) ⟨rfl, rfl, rfl⟩
theorem x_shitI0 (l : Launch) (hl : l.stackTraces = false) {X : xSt} {s : Nat} (h : SR 0 X s) (hcb : CB X) (i : Int32) (hout : ¬ vp_in i (vN (X 41 s))) : Cn l yX4_item (ws_ yX4_item cX4_item 3 (some .int)) (rmD 0 3 310, F36, xNo, xThr "java/lang/ArrayIndexOutOfBoundsException" X) [.ref (768 + s), .int (nI 0), .int i] (wX X) := by
  refine Cn_start (ls := [some (.ref (768 + s)), some (.int (nI 0)), some (.int i)]) (by decide) rfl (Nat.le_of_ble_eq_true rfl) F36_lo ?_
  have hs := h.1
  have hz := (sh_z h).2
  refine V_iload_n dX4_item_0 rfl ?_
  refine V_lookup (off := 27) (tgt := 28) dX4_item_1 (by decide +kernel) (by decide +kernel) (by decide) ?_
  refine V_aload_n dX4_item_28 rfl ?_
  refine V_getf (i := 0) k_X4 dX4_item_29 (by decide) q221 (sh_ob h) rfl ?_
  refine V_castE dX4_item_32 q776 (sh_is0 h) ?_
  refine V_iload_n dX4_item_35 rfl ?_
  refine V_baldZ dX4_item_36 (sh_row0 h) hout (fun tx e => ?_)
  refine V_thrAIOOBE (k' := 0) (n' := 0) hl (by rw [e]; exact index_text_modelled i _) (by rw [e]; exact Nat.le_trans (index_text_bytes i (by omega)) (by decide)) ⟨Nat.le_of_ble_eq_true rfl, Nat.le_of_ble_eq_true rfl⟩ (Nat.le_of_ble_eq_true rfl) (wX_far X (by decide)) (Nat.le_refl _) (sh_hi hcb) (nel_c (ne_r (by omega)) (nel_c ne_i (nel_c ne_i nel_0))) nes_0 ⟨Nat.le_of_ble_eq_true rfl, Nat.le_of_ble_eq_true rfl⟩ ?_
  exact Vx_out (fun z hz => nomatch hz) ⟨rfl, rfl, rfl⟩
theorem x_shitC10 (l : Launch) (hl : l.stackTraces = false) {X : xSt} {s : Nat} (h : SR 1 X s) (hcb : CB X) (i : Int32) : Cn l yX4_item (ws_ yX4_item cX4_item 3 (some .int)) (rmD 0 3 310, F36, xNo, xThr "java/lang/ClassCastException" X) [.ref (768 + s), .int (nI 0), .int i] (wX X) := by
  refine Cn_start (ls := [some (.ref (768 + s)), some (.int (nI 0)), some (.int i)]) (by decide) rfl (Nat.le_of_ble_eq_true rfl) F36_lo ?_
  have hs := h.1
  refine V_iload_n dX4_item_0 rfl ?_
  refine V_lookup (off := 27) (tgt := 28) dX4_item_1 (by decide +kernel) (by decide +kernel) (by decide) ?_
  refine V_aload_n dX4_item_28 rfl ?_
  refine V_getf (i := 0) k_X4 dX4_item_29 (by decide) q221 (sh_ob h) rfl ?_
  refine V_castNo dX4_item_32 q776 (by decide) (by decide) (by decide) (sh_is1 h) (fun tx e1 e2 => ?_)
  refine V_thrCCE (k' := 0) (n' := 0) hl e1 e2 ⟨Nat.le_of_ble_eq_true rfl, Nat.le_of_ble_eq_true rfl⟩ (Nat.le_of_ble_eq_true rfl) (wX_far X (by decide)) (Nat.le_refl _) (sh_hi hcb) (nel_c (ne_r (by omega)) (nel_c ne_i (nel_c ne_i nel_0))) (nes_c (ne_r (by omega)) nes_0) ⟨Nat.le_of_ble_eq_true rfl, Nat.le_of_ble_eq_true rfl⟩ ?_
  exact Vx_out (fun z hz => nomatch hz) ⟨rfl, rfl, rfl⟩
theorem x_shitC12 (l : Launch) (hl : l.stackTraces = false) {X : xSt} {s : Nat} (h : SR 1 X s) (hcb : CB X) (i : Int32) : Cn l yX4_item (ws_ yX4_item cX4_item 3 (some .int)) (rmD 0 3 310, F36, xNo, xThr "java/lang/ClassCastException" X) [.ref (768 + s), .int (nI 2), .int i] (wX X) := by
  refine Cn_start (ls := [some (.ref (768 + s)), some (.int (nI 2)), some (.int i)]) (by decide) rfl (Nat.le_of_ble_eq_true rfl) F36_lo ?_
  have hs := h.1
  refine V_iload_n dX4_item_0 rfl ?_
  refine V_lookup (off := 47) (tgt := 48) dX4_item_1 (by decide +kernel) (by decide +kernel) (by decide) ?_
  refine V_aload_n dX4_item_48 rfl ?_
  refine V_getf (i := 0) k_X4 dX4_item_49 (by decide) q221 (sh_ob h) rfl ?_
  refine V_castNo dX4_item_52 q778 (by decide) (by decide) (by decide) (sh_is1 h) (fun tx e1 e2 => ?_)
  refine V_thrCCE (k' := 0) (n' := 0) hl e1 e2 ⟨Nat.le_of_ble_eq_true rfl, Nat.le_of_ble_eq_true rfl⟩ (Nat.le_of_ble_eq_true rfl) (wX_far X (by decide)) (Nat.le_refl _) (sh_hi hcb) (nel_c (ne_r (by omega)) (nel_c ne_i (nel_c ne_i nel_0))) (nes_c (ne_r (by omega)) nes_0) ⟨Nat.le_of_ble_eq_true rfl, Nat.le_of_ble_eq_true rfl⟩ ?_
  exact Vx_out (fun z hz => nomatch hz) ⟨rfl, rfl, rfl⟩
theorem x_shitI1 (l : Launch) (hl : l.stackTraces = false) {X : xSt} {s : Nat} (h : SR 1 X s) (hcb : CB X) (i : Int32) (hout : ¬ vp_in i (vN (X 41 s))) : Cn l yX4_item (ws_ yX4_item cX4_item 3 (some .int)) (rmD 0 3 310, F36, xNo, xThr "java/lang/ArrayIndexOutOfBoundsException" X) [.ref (768 + s), .int (nI 1), .int i] (wX X) := by
  refine Cn_start (ls := [some (.ref (768 + s)), some (.int (nI 1)), some (.int i)]) (by decide) rfl (Nat.le_of_ble_eq_true rfl) F36_lo ?_
  have hs := h.1
  have hz := (sh_z h).2
  refine V_iload_n dX4_item_0 rfl ?_
  refine V_lookup (off := 37) (tgt := 38) dX4_item_1 (by decide +kernel) (by decide +kernel) (by decide) ?_
  refine V_aload_n dX4_item_38 rfl ?_
  refine V_getf (i := 0) k_X4 dX4_item_39 (by decide) q221 (sh_ob h) rfl ?_
  refine V_castE dX4_item_42 q777 (sh_is1 h) ?_
  refine V_iload_n dX4_item_45 rfl ?_
  refine V_saldZ dX4_item_46 (sh_row1 h) hout (fun tx e => ?_)
  refine V_thrAIOOBE (k' := 0) (n' := 0) hl (by rw [e]; exact index_text_modelled i _) (by rw [e]; exact Nat.le_trans (index_text_bytes i (by omega)) (by decide)) ⟨Nat.le_of_ble_eq_true rfl, Nat.le_of_ble_eq_true rfl⟩ (Nat.le_of_ble_eq_true rfl) (wX_far X (by decide)) (Nat.le_refl _) (sh_hi hcb) (nel_c (ne_r (by omega)) (nel_c ne_i (nel_c ne_i nel_0))) nes_0 ⟨Nat.le_of_ble_eq_true rfl, Nat.le_of_ble_eq_true rfl⟩ ?_
  exact Vx_out (fun z hz => nomatch hz) ⟨rfl, rfl, rfl⟩
theorem x_shitC20 (l : Launch) (hl : l.stackTraces = false) {X : xSt} {s : Nat} (h : SR 2 X s) (hcb : CB X) (i : Int32) : Cn l yX4_item (ws_ yX4_item cX4_item 3 (some .int)) (rmD 0 3 310, F36, xNo, xThr "java/lang/ClassCastException" X) [.ref (768 + s), .int (nI 0), .int i] (wX X) := by
  refine Cn_start (ls := [some (.ref (768 + s)), some (.int (nI 0)), some (.int i)]) (by decide) rfl (Nat.le_of_ble_eq_true rfl) F36_lo ?_
  have hs := h.1
  refine V_iload_n dX4_item_0 rfl ?_
  refine V_lookup (off := 27) (tgt := 28) dX4_item_1 (by decide +kernel) (by decide +kernel) (by decide) ?_
  refine V_aload_n dX4_item_28 rfl ?_
  refine V_getf (i := 0) k_X4 dX4_item_29 (by decide) q221 (sh_ob h) rfl ?_
  refine V_castNo dX4_item_32 q776 (by decide) (by decide) (by decide) (sh_is2 h) (fun tx e1 e2 => ?_)
  refine V_thrCCE (k' := 0) (n' := 0) hl e1 e2 ⟨Nat.le_of_ble_eq_true rfl, Nat.le_of_ble_eq_true rfl⟩ (Nat.le_of_ble_eq_true rfl) (wX_far X (by decide)) (Nat.le_refl _) (sh_hi hcb) (nel_c (ne_r (by omega)) (nel_c ne_i (nel_c ne_i nel_0))) (nes_c (ne_r (by omega)) nes_0) ⟨Nat.le_of_ble_eq_true rfl, Nat.le_of_ble_eq_true rfl⟩ ?_
  exact Vx_out (fun z hz => nomatch hz) ⟨rfl, rfl, rfl⟩
theorem x_shitC21 (l : Launch) (hl : l.stackTraces = false) {X : xSt} {s : Nat} (h : SR 2 X s) (hcb : CB X) (i : Int32) : Cn l yX4_item (ws_ yX4_item cX4_item 3 (some .int)) (rmD 0 3 310, F36, xNo, xThr "java/lang/ClassCastException" X) [.ref (768 + s), .int (nI 1), .int i] (wX X) := by
  refine Cn_start (ls := [some (.ref (768 + s)), some (.int (nI 1)), some (.int i)]) (by decide) rfl (Nat.le_of_ble_eq_true rfl) F36_lo ?_
  have hs := h.1
  refine V_iload_n dX4_item_0 rfl ?_
  refine V_lookup (off := 37) (tgt := 38) dX4_item_1 (by decide +kernel) (by decide +kernel) (by decide) ?_
  refine V_aload_n dX4_item_38 rfl ?_
  refine V_getf (i := 0) k_X4 dX4_item_39 (by decide) q221 (sh_ob h) rfl ?_
  refine V_castNo dX4_item_42 q777 (by decide) (by decide) (by decide) (sh_is2 h) (fun tx e1 e2 => ?_)
  refine V_thrCCE (k' := 0) (n' := 0) hl e1 e2 ⟨Nat.le_of_ble_eq_true rfl, Nat.le_of_ble_eq_true rfl⟩ (Nat.le_of_ble_eq_true rfl) (wX_far X (by decide)) (Nat.le_refl _) (sh_hi hcb) (nel_c (ne_r (by omega)) (nel_c ne_i (nel_c ne_i nel_0))) (nes_c (ne_r (by omega)) nes_0) ⟨Nat.le_of_ble_eq_true rfl, Nat.le_of_ble_eq_true rfl⟩ ?_
  exact Vx_out (fun z hz => nomatch hz) ⟨rfl, rfl, rfl⟩
theorem x_shitI2 (l : Launch) (hl : l.stackTraces = false) {X : xSt} {s : Nat} (h : SR 2 X s) (hcb : CB X) (i : Int32) (hout : ¬ vp_in i (vN (X 41 s))) : Cn l yX4_item (ws_ yX4_item cX4_item 3 (some .int)) (rmD 0 3 310, F36, xNo, xThr "java/lang/ArrayIndexOutOfBoundsException" X) [.ref (768 + s), .int (nI 2), .int i] (wX X) := by
  refine Cn_start (ls := [some (.ref (768 + s)), some (.int (nI 2)), some (.int i)]) (by decide) rfl (Nat.le_of_ble_eq_true rfl) F36_lo ?_
  have hs := h.1
  have hz := (sh_z h).2
  refine V_iload_n dX4_item_0 rfl ?_
  refine V_lookup (off := 47) (tgt := 48) dX4_item_1 (by decide +kernel) (by decide +kernel) (by decide) ?_
  refine V_aload_n dX4_item_48 rfl ?_
  refine V_getf (i := 0) k_X4 dX4_item_49 (by decide) q221 (sh_ob h) rfl ?_
  refine V_castE dX4_item_52 q778 (sh_is2 h) ?_
  refine V_iload_n dX4_item_55 rfl ?_
  refine V_ialdZ dX4_item_56 (sh_row2 h) hout (fun tx e => ?_)
  refine V_thrAIOOBE (k' := 0) (n' := 0) hl (by rw [e]; exact index_text_modelled i _) (by rw [e]; exact Nat.le_trans (index_text_bytes i (by omega)) (by decide)) ⟨Nat.le_of_ble_eq_true rfl, Nat.le_of_ble_eq_true rfl⟩ (Nat.le_of_ble_eq_true rfl) (wX_far X (by decide)) (Nat.le_refl _) (sh_hi hcb) (nel_c (ne_r (by omega)) (nel_c ne_i (nel_c ne_i nel_0))) nes_0 ⟨Nat.le_of_ble_eq_true rfl, Nat.le_of_ble_eq_true rfl⟩ ?_
  exact Vx_out (fun z hz => nomatch hz) ⟨rfl, rfl, rfl⟩
theorem x_shlyC01 (l : Launch) (hl : l.stackTraces = false) {X : xSt} {s : Nat} (h : SR 0 X s) (hcb : CB X) (i : Int32) (v : Int32) : Cn l yX4_lay (ws_ yX4_lay cX4_lay 4 none) (rmD 0 3 310, F36, xNo, xThr "java/lang/ClassCastException" X) [.ref (768 + s), .int (nI 1), .int i, .int v] (wX X) := by
  refine Cn_start (ls := [some (.ref (768 + s)), some (.int (nI 1)), some (.int i), some (.int v)]) (by decide) rfl (Nat.le_of_ble_eq_true rfl) F36_lo ?_
  have hs := h.1
  refine V_iload_n dX4_lay_0 rfl ?_
  refine V_lookup (off := 41) (tgt := 42) dX4_lay_1 (by decide +kernel) (by decide +kernel) (by decide) ?_
  refine V_aload_n dX4_lay_42 rfl ?_
  refine V_getf (i := 0) k_X4 dX4_lay_43 (by decide) q221 (sh_ob h) rfl ?_
  refine V_castNo dX4_lay_46 q777 (by decide) (by decide) (by decide) (sh_is0 h) (fun tx e1 e2 => ?_)
  refine V_thrCCE (k' := 0) (n' := 0) hl e1 e2 ⟨Nat.le_of_ble_eq_true rfl, Nat.le_of_ble_eq_true rfl⟩ (Nat.le_of_ble_eq_true rfl) (wX_far X (by decide)) (Nat.le_refl _) (sh_hi hcb) (nel_c (ne_r (by omega)) (nel_c ne_i (nel_c ne_i (nel_c ne_i nel_0)))) (nes_c (ne_r (by omega)) nes_0) ⟨Nat.le_of_ble_eq_true rfl, Nat.le_of_ble_eq_true rfl⟩ ?_
  exact Vx_out (fun z hz => nomatch hz) ⟨rfl, rfl, rfl⟩
theorem x_shlyC02 (l : Launch) (hl : l.stackTraces = false) {X : xSt} {s : Nat} (h : SR 0 X s) (hcb : CB X) (i : Int32) (v : Int32) : Cn l yX4_lay (ws_ yX4_lay cX4_lay 4 none) (rmD 0 3 310, F36, xNo, xThr "java/lang/ClassCastException" X) [.ref (768 + s), .int (nI 2), .int i, .int v] (wX X) := by
  refine Cn_start (ls := [some (.ref (768 + s)), some (.int (nI 2)), some (.int i), some (.int v)]) (by decide) rfl (Nat.le_of_ble_eq_true rfl) F36_lo ?_
  have hs := h.1
  refine V_iload_n dX4_lay_0 rfl ?_
  refine V_lookup (off := 55) (tgt := 56) dX4_lay_1 (by decide +kernel) (by decide +kernel) (by decide) ?_
  refine V_aload_n dX4_lay_56 rfl ?_
  refine V_getf (i := 0) k_X4 dX4_lay_57 (by decide) q221 (sh_ob h) rfl ?_
  refine V_castNo dX4_lay_60 q778 (by decide) (by decide) (by decide) (sh_is0 h) (fun tx e1 e2 => ?_)
  refine V_thrCCE (k' := 0) (n' := 0) hl e1 e2 ⟨Nat.le_of_ble_eq_true rfl, Nat.le_of_ble_eq_true rfl⟩ (Nat.le_of_ble_eq_true rfl) (wX_far X (by decide)) (Nat.le_refl _) (sh_hi hcb) (nel_c (ne_r (by omega)) (nel_c ne_i (nel_c ne_i (nel_c ne_i nel_0)))) (nes_c (ne_r (by omega)) nes_0) ⟨Nat.le_of_ble_eq_true rfl, Nat.le_of_ble_eq_true rfl⟩ ?_
  exact Vx_out (fun z hz => nomatch hz) ⟨rfl, rfl, rfl⟩
theorem x_shlyI0 (l : Launch) (hl : l.stackTraces = false) {X : xSt} {s : Nat} (h : SR 0 X s) (hcb : CB X) (i : Int32) (v : Int32) (hout : ¬ vp_in i (vN (X 41 s))) : Cn l yX4_lay (ws_ yX4_lay cX4_lay 4 none) (rmD 0 3 310, F36, xNo, xThr "java/lang/ArrayIndexOutOfBoundsException" X) [.ref (768 + s), .int (nI 0), .int i, .int v] (wX X) := by
  refine Cn_start (ls := [some (.ref (768 + s)), some (.int (nI 0)), some (.int i), some (.int v)]) (by decide) rfl (Nat.le_of_ble_eq_true rfl) F36_lo ?_
  have hs := h.1
  have hz := (sh_z h).2
  refine V_iload_n dX4_lay_0 rfl ?_
  refine V_lookup (off := 27) (tgt := 28) dX4_lay_1 (by decide +kernel) (by decide +kernel) (by decide) ?_
  refine V_aload_n dX4_lay_28 rfl ?_
  refine V_getf (i := 0) k_X4 dX4_lay_29 (by decide) q221 (sh_ob h) rfl ?_
  refine V_castE dX4_lay_32 q776 (sh_is0 h) ?_
  refine V_iload_n dX4_lay_35 rfl ?_
  refine V_iload_n dX4_lay_36 rfl ?_
  refine V_i2b dX4_lay_37 rfl ?_
  refine V_bastZ dX4_lay_38 (sh_row0 h) hout (fun tx e => ?_)
  refine V_thrAIOOBE (k' := 0) (n' := 0) hl (by rw [e]; exact index_text_modelled i _) (by rw [e]; exact Nat.le_trans (index_text_bytes i (by omega)) (by decide)) ⟨Nat.le_of_ble_eq_true rfl, Nat.le_of_ble_eq_true rfl⟩ (Nat.le_of_ble_eq_true rfl) (wX_far X (by decide)) (Nat.le_refl _) (sh_hi hcb) (nel_c (ne_r (by omega)) (nel_c ne_i (nel_c ne_i (nel_c ne_i nel_0)))) nes_0 ⟨Nat.le_of_ble_eq_true rfl, Nat.le_of_ble_eq_true rfl⟩ ?_
  exact Vx_out (fun z hz => nomatch hz) ⟨rfl, rfl, rfl⟩
theorem x_shlyC10 (l : Launch) (hl : l.stackTraces = false) {X : xSt} {s : Nat} (h : SR 1 X s) (hcb : CB X) (i : Int32) (v : Int32) : Cn l yX4_lay (ws_ yX4_lay cX4_lay 4 none) (rmD 0 3 310, F36, xNo, xThr "java/lang/ClassCastException" X) [.ref (768 + s), .int (nI 0), .int i, .int v] (wX X) := by
  refine Cn_start (ls := [some (.ref (768 + s)), some (.int (nI 0)), some (.int i), some (.int v)]) (by decide) rfl (Nat.le_of_ble_eq_true rfl) F36_lo ?_
  have hs := h.1
  refine V_iload_n dX4_lay_0 rfl ?_
  refine V_lookup (off := 27) (tgt := 28) dX4_lay_1 (by decide +kernel) (by decide +kernel) (by decide) ?_
  refine V_aload_n dX4_lay_28 rfl ?_
  refine V_getf (i := 0) k_X4 dX4_lay_29 (by decide) q221 (sh_ob h) rfl ?_
  refine V_castNo dX4_lay_32 q776 (by decide) (by decide) (by decide) (sh_is1 h) (fun tx e1 e2 => ?_)
  refine V_thrCCE (k' := 0) (n' := 0) hl e1 e2 ⟨Nat.le_of_ble_eq_true rfl, Nat.le_of_ble_eq_true rfl⟩ (Nat.le_of_ble_eq_true rfl) (wX_far X (by decide)) (Nat.le_refl _) (sh_hi hcb) (nel_c (ne_r (by omega)) (nel_c ne_i (nel_c ne_i (nel_c ne_i nel_0)))) (nes_c (ne_r (by omega)) nes_0) ⟨Nat.le_of_ble_eq_true rfl, Nat.le_of_ble_eq_true rfl⟩ ?_
  exact Vx_out (fun z hz => nomatch hz) ⟨rfl, rfl, rfl⟩
theorem x_shlyC12 (l : Launch) (hl : l.stackTraces = false) {X : xSt} {s : Nat} (h : SR 1 X s) (hcb : CB X) (i : Int32) (v : Int32) : Cn l yX4_lay (ws_ yX4_lay cX4_lay 4 none) (rmD 0 3 310, F36, xNo, xThr "java/lang/ClassCastException" X) [.ref (768 + s), .int (nI 2), .int i, .int v] (wX X) := by
  refine Cn_start (ls := [some (.ref (768 + s)), some (.int (nI 2)), some (.int i), some (.int v)]) (by decide) rfl (Nat.le_of_ble_eq_true rfl) F36_lo ?_
  have hs := h.1
  refine V_iload_n dX4_lay_0 rfl ?_
  refine V_lookup (off := 55) (tgt := 56) dX4_lay_1 (by decide +kernel) (by decide +kernel) (by decide) ?_
  refine V_aload_n dX4_lay_56 rfl ?_
  refine V_getf (i := 0) k_X4 dX4_lay_57 (by decide) q221 (sh_ob h) rfl ?_
  refine V_castNo dX4_lay_60 q778 (by decide) (by decide) (by decide) (sh_is1 h) (fun tx e1 e2 => ?_)
  refine V_thrCCE (k' := 0) (n' := 0) hl e1 e2 ⟨Nat.le_of_ble_eq_true rfl, Nat.le_of_ble_eq_true rfl⟩ (Nat.le_of_ble_eq_true rfl) (wX_far X (by decide)) (Nat.le_refl _) (sh_hi hcb) (nel_c (ne_r (by omega)) (nel_c ne_i (nel_c ne_i (nel_c ne_i nel_0)))) (nes_c (ne_r (by omega)) nes_0) ⟨Nat.le_of_ble_eq_true rfl, Nat.le_of_ble_eq_true rfl⟩ ?_
  exact Vx_out (fun z hz => nomatch hz) ⟨rfl, rfl, rfl⟩
theorem x_shlyI1 (l : Launch) (hl : l.stackTraces = false) {X : xSt} {s : Nat} (h : SR 1 X s) (hcb : CB X) (i : Int32) (v : Int32) (hout : ¬ vp_in i (vN (X 41 s))) : Cn l yX4_lay (ws_ yX4_lay cX4_lay 4 none) (rmD 0 3 310, F36, xNo, xThr "java/lang/ArrayIndexOutOfBoundsException" X) [.ref (768 + s), .int (nI 1), .int i, .int v] (wX X) := by
  refine Cn_start (ls := [some (.ref (768 + s)), some (.int (nI 1)), some (.int i), some (.int v)]) (by decide) rfl (Nat.le_of_ble_eq_true rfl) F36_lo ?_
  have hs := h.1
  have hz := (sh_z h).2
  refine V_iload_n dX4_lay_0 rfl ?_
  refine V_lookup (off := 41) (tgt := 42) dX4_lay_1 (by decide +kernel) (by decide +kernel) (by decide) ?_
  refine V_aload_n dX4_lay_42 rfl ?_
  refine V_getf (i := 0) k_X4 dX4_lay_43 (by decide) q221 (sh_ob h) rfl ?_
  refine V_castE dX4_lay_46 q777 (sh_is1 h) ?_
  refine V_iload_n dX4_lay_49 rfl ?_
  refine V_iload_n dX4_lay_50 rfl ?_
  refine V_i2s dX4_lay_51 rfl ?_
  refine V_sastZ dX4_lay_52 (sh_row1 h) hout (fun tx e => ?_)
  refine V_thrAIOOBE (k' := 0) (n' := 0) hl (by rw [e]; exact index_text_modelled i _) (by rw [e]; exact Nat.le_trans (index_text_bytes i (by omega)) (by decide)) ⟨Nat.le_of_ble_eq_true rfl, Nat.le_of_ble_eq_true rfl⟩ (Nat.le_of_ble_eq_true rfl) (wX_far X (by decide)) (Nat.le_refl _) (sh_hi hcb) (nel_c (ne_r (by omega)) (nel_c ne_i (nel_c ne_i (nel_c ne_i nel_0)))) nes_0 ⟨Nat.le_of_ble_eq_true rfl, Nat.le_of_ble_eq_true rfl⟩ ?_
  exact Vx_out (fun z hz => nomatch hz) ⟨rfl, rfl, rfl⟩
theorem x_shlyC20 (l : Launch) (hl : l.stackTraces = false) {X : xSt} {s : Nat} (h : SR 2 X s) (hcb : CB X) (i : Int32) (v : Int32) : Cn l yX4_lay (ws_ yX4_lay cX4_lay 4 none) (rmD 0 3 310, F36, xNo, xThr "java/lang/ClassCastException" X) [.ref (768 + s), .int (nI 0), .int i, .int v] (wX X) := by
  refine Cn_start (ls := [some (.ref (768 + s)), some (.int (nI 0)), some (.int i), some (.int v)]) (by decide) rfl (Nat.le_of_ble_eq_true rfl) F36_lo ?_
  have hs := h.1
  refine V_iload_n dX4_lay_0 rfl ?_
  refine V_lookup (off := 27) (tgt := 28) dX4_lay_1 (by decide +kernel) (by decide +kernel) (by decide) ?_
  refine V_aload_n dX4_lay_28 rfl ?_
  refine V_getf (i := 0) k_X4 dX4_lay_29 (by decide) q221 (sh_ob h) rfl ?_
  refine V_castNo dX4_lay_32 q776 (by decide) (by decide) (by decide) (sh_is2 h) (fun tx e1 e2 => ?_)
  refine V_thrCCE (k' := 0) (n' := 0) hl e1 e2 ⟨Nat.le_of_ble_eq_true rfl, Nat.le_of_ble_eq_true rfl⟩ (Nat.le_of_ble_eq_true rfl) (wX_far X (by decide)) (Nat.le_refl _) (sh_hi hcb) (nel_c (ne_r (by omega)) (nel_c ne_i (nel_c ne_i (nel_c ne_i nel_0)))) (nes_c (ne_r (by omega)) nes_0) ⟨Nat.le_of_ble_eq_true rfl, Nat.le_of_ble_eq_true rfl⟩ ?_
  exact Vx_out (fun z hz => nomatch hz) ⟨rfl, rfl, rfl⟩
theorem x_shlyC21 (l : Launch) (hl : l.stackTraces = false) {X : xSt} {s : Nat} (h : SR 2 X s) (hcb : CB X) (i : Int32) (v : Int32) : Cn l yX4_lay (ws_ yX4_lay cX4_lay 4 none) (rmD 0 3 310, F36, xNo, xThr "java/lang/ClassCastException" X) [.ref (768 + s), .int (nI 1), .int i, .int v] (wX X) := by
  refine Cn_start (ls := [some (.ref (768 + s)), some (.int (nI 1)), some (.int i), some (.int v)]) (by decide) rfl (Nat.le_of_ble_eq_true rfl) F36_lo ?_
  have hs := h.1
  refine V_iload_n dX4_lay_0 rfl ?_
  refine V_lookup (off := 41) (tgt := 42) dX4_lay_1 (by decide +kernel) (by decide +kernel) (by decide) ?_
  refine V_aload_n dX4_lay_42 rfl ?_
  refine V_getf (i := 0) k_X4 dX4_lay_43 (by decide) q221 (sh_ob h) rfl ?_
  refine V_castNo dX4_lay_46 q777 (by decide) (by decide) (by decide) (sh_is2 h) (fun tx e1 e2 => ?_)
  refine V_thrCCE (k' := 0) (n' := 0) hl e1 e2 ⟨Nat.le_of_ble_eq_true rfl, Nat.le_of_ble_eq_true rfl⟩ (Nat.le_of_ble_eq_true rfl) (wX_far X (by decide)) (Nat.le_refl _) (sh_hi hcb) (nel_c (ne_r (by omega)) (nel_c ne_i (nel_c ne_i (nel_c ne_i nel_0)))) (nes_c (ne_r (by omega)) nes_0) ⟨Nat.le_of_ble_eq_true rfl, Nat.le_of_ble_eq_true rfl⟩ ?_
  exact Vx_out (fun z hz => nomatch hz) ⟨rfl, rfl, rfl⟩
theorem x_shlyI2 (l : Launch) (hl : l.stackTraces = false) {X : xSt} {s : Nat} (h : SR 2 X s) (hcb : CB X) (i : Int32) (v : Int32) (hout : ¬ vp_in i (vN (X 41 s))) : Cn l yX4_lay (ws_ yX4_lay cX4_lay 4 none) (rmD 0 3 310, F36, xNo, xThr "java/lang/ArrayIndexOutOfBoundsException" X) [.ref (768 + s), .int (nI 2), .int i, .int v] (wX X) := by
  refine Cn_start (ls := [some (.ref (768 + s)), some (.int (nI 2)), some (.int i), some (.int v)]) (by decide) rfl (Nat.le_of_ble_eq_true rfl) F36_lo ?_
  have hs := h.1
  have hz := (sh_z h).2
  refine V_iload_n dX4_lay_0 rfl ?_
  refine V_lookup (off := 55) (tgt := 56) dX4_lay_1 (by decide +kernel) (by decide +kernel) (by decide) ?_
  refine V_aload_n dX4_lay_56 rfl ?_
  refine V_getf (i := 0) k_X4 dX4_lay_57 (by decide) q221 (sh_ob h) rfl ?_
  refine V_castE dX4_lay_60 q778 (sh_is2 h) ?_
  refine V_iload_n dX4_lay_63 rfl ?_
  refine V_iload_n dX4_lay_64 rfl ?_
  refine V_iastZ dX4_lay_65 (sh_row2 h) hout (fun tx e => ?_)
  refine V_thrAIOOBE (k' := 0) (n' := 0) hl (by rw [e]; exact index_text_modelled i _) (by rw [e]; exact Nat.le_trans (index_text_bytes i (by omega)) (by decide)) ⟨Nat.le_of_ble_eq_true rfl, Nat.le_of_ble_eq_true rfl⟩ (Nat.le_of_ble_eq_true rfl) (wX_far X (by decide)) (Nat.le_refl _) (sh_hi hcb) (nel_c (ne_r (by omega)) (nel_c ne_i (nel_c ne_i (nel_c ne_i nel_0)))) nes_0 ⟨Nat.le_of_ble_eq_true rfl, Nat.le_of_ble_eq_true rfl⟩ ?_
  exact Vx_out (fun z hz => nomatch hz) ⟨rfl, rfl, rfl⟩
