/-! sorts, persons, promises -/
set_option maxRecDepth 100000
set_option maxHeartbeats 4000000 in
theorem s_nu0 (l : Launch) (w : xW) (b : Nat) : Cq l yX10_number cX10_number 1 (some .int) 0 [.ref b] w (some (.int (nI 0))) := by
  refine Cq_start (ls := [some (.ref b)]) (by decide) rfl (Nat.le_of_ble_eq_true rfl) ?_
  intro Q hQ
  refine V_iconst dX10_number_0 li_0 ?_
  exact V_ireturn dX10_number_1 rfl hQ
set_option maxHeartbeats 4000000 in
theorem s_lg0 (l : Launch) (w : xW) (b : Nat) (g : Int32) : Cq l yX10_longer cX10_longer 2 (some .int) 0 [.ref b, .int g] w (some (.int (g / nI 2))) := by
  refine Cq_start (ls := [some (.ref b), some (.int g)]) (by decide) rfl (Nat.le_of_ble_eq_true rfl) ?_
  intro Q hQ
  refine V_iload_n dX10_longer_0 rfl ?_
  refine V_iconst dX10_longer_1 li_2 ?_
  refine V_idiv dX10_longer_2 (by decide +kernel) ?_
  exact V_ireturn dX10_longer_3 rfl hQ
set_option maxHeartbeats 4000000 in
theorem s_lg1 (l : Launch) (w : xW) (b : Nat) (g : Int32) : Cq l yX11_longer cX11_longer 2 (some .int) 0 [.ref b, .int g] w (some (.int (nI 2 * g))) := by
  refine Cq_start (ls := [some (.ref b), some (.int g)]) (by decide) rfl (Nat.le_of_ble_eq_true rfl) ?_
  intro Q hQ
  refine V_iconst dX11_longer_0 li_2 ?_
  refine V_iload_n dX11_longer_1 rfl ?_
  refine V_imul dX11_longer_2 ?_
  exact V_ireturn dX11_longer_3 rfl hQ
set_option maxHeartbeats 4000000 in
theorem s_lg2 (l : Launch) (w : xW) (b : Nat) (g : Int32) : Cq l yX9_longer cX9_longer 2 (some .int) 0 [.ref b, .int g] w (some (.int g)) := by
  refine Cq_start (ls := [some (.ref b), some (.int g)]) (by decide) rfl (Nat.le_of_ble_eq_true rfl) ?_
  intro Q hQ
  refine V_iload_n dX9_longer_0 rfl ?_
  exact V_ireturn dX9_longer_1 rfl hQ
set_option maxHeartbeats 4000000 in
theorem s_nu1 (l : Launch) {w : xW} {b : Nat} {ow : Bool} (hb : w b = some (.inr (8, ow, []))) : Cq l yX11_number cX11_number 1 (some .int) 1 [.ref b] w (some (.int (nI 1))) := by
  refine Cq_start (ls := [some (.ref b)]) (by decide) rfl (Nat.le_of_ble_eq_true rfl) ?_
  intro Q hQ
  refine V_aload_n dX11_number_0 rfl ?_
  refine Vq_su (s_nu0 l w b) dX11_number_1 (lw_SU q697 q687 q698 q685 q1695 q693) ⟨by decide, hs_X10_number.2.2⟩ (by decide) hb cl_X11 rfl (Nat.le_of_ble_eq_true rfl) ?_
  refine V_iconst dX11_number_4 li_1 ?_
  refine V_iaddN dX11_number_5 ?_
  exact V_ireturn dX11_number_6 rfl hQ
set_option maxHeartbeats 4000000 in
theorem s_nu2 (l : Launch) {w : xW} {b : Nat} {ow : Bool} (hb : w b = some (.inr (9, ow, []))) : Cq l yX9_number cX9_number 1 (some .int) 1 [.ref b] w (some (.int (nI 2))) := by
  refine Cq_start (ls := [some (.ref b)]) (by decide) rfl (Nat.le_of_ble_eq_true rfl) ?_
  intro Q hQ
  refine V_aload_n dX9_number_0 rfl ?_
  refine Vq_su (s_nu0 l w b) dX9_number_1 (lw_SU q691 q687 q692 q685 q1695 q693) ⟨by decide, hs_X10_number.2.2⟩ (by decide) hb cl_X9 rfl (Nat.le_of_ble_eq_true rfl) ?_
  refine V_iconst dX9_number_4 li_2 ?_
  refine V_iaddN dX9_number_5 ?_
  exact V_ireturn dX9_number_6 rfl hQ
set_option maxHeartbeats 4000000 in
theorem s_sh0 (l : Launch) {w : xW} {b : Nat} {ow : Bool} (hb : w b = some (.inr (7, ow, []))) (g : Int32) : Cq l yX10_shorter cX10_shorter 2 (some .int) 1 [.ref b, .int g] w (some (.int (g / nI 2))) := by
  refine Cq_start (ls := [some (.ref b), some (.int g)]) (by decide) rfl (Nat.le_of_ble_eq_true rfl) ?_
  intro Q hQ
  refine V_aload_n dX10_shorter_0 rfl ?_
  refine V_iload_n dX10_shorter_1 rfl ?_
  refine Vq_v (s_lg0 l w b g) dX10_shorter_2 (lw_V q838 q802 q803 q1695 q811) hv_X10_longer (by decide) hb cl_X10 rfl rfl (Nat.le_of_ble_eq_true rfl) ?_
  exact V_ireturn dX10_shorter_5 rfl hQ
set_option maxHeartbeats 4000000 in
theorem s_sh1 (l : Launch) {w : xW} {b : Nat} {ow : Bool} (hb : w b = some (.inr (8, ow, []))) (g : Int32) : Cq l yX10_shorter cX10_shorter 2 (some .int) 1 [.ref b, .int g] w (some (.int (nI 2 * g))) := by
  refine Cq_start (ls := [some (.ref b), some (.int g)]) (by decide) rfl (Nat.le_of_ble_eq_true rfl) ?_
  intro Q hQ
  refine V_aload_n dX10_shorter_0 rfl ?_
  refine V_iload_n dX10_shorter_1 rfl ?_
  refine Vq_o (s_lg1 l w b g) dX10_shorter_2 (lw_O q838 q804 q802 q808 q809 q1696 q810) q811 hs_X10_longer (by decide) (.inl ⟨_, _, _, _, hb, cl_X11, rfl⟩) rfl (Nat.le_of_ble_eq_true rfl) ?_
  exact V_ireturn dX10_shorter_5 rfl hQ
set_option maxHeartbeats 4000000 in
theorem s_sh2 (l : Launch) {w : xW} {b : Nat} {ow : Bool} (hb : w b = some (.inr (9, ow, []))) (g : Int32) : Cq l yX10_shorter cX10_shorter 2 (some .int) 1 [.ref b, .int g] w (some (.int (g))) := by
  refine Cq_start (ls := [some (.ref b), some (.int g)]) (by decide) rfl (Nat.le_of_ble_eq_true rfl) ?_
  intro Q hQ
  refine V_aload_n dX10_shorter_0 rfl ?_
  refine V_iload_n dX10_shorter_1 rfl ?_
  refine Vq_o (s_lg2 l w b g) dX10_shorter_2 (lw_O q838 q804 q802 q805 q806 q1694 q807) q811 hs_X10_longer (by decide) (.inl ⟨_, _, _, _, hb, cl_X9, rfl⟩) rfl (Nat.le_of_ble_eq_true rfl) ?_
  exact V_ireturn dX10_shorter_5 rfl hQ
set_option maxHeartbeats 4000000 in
theorem s_shA (l : Launch) {w : xW} {b : Nat} {ow : Bool} (hb : w b = some (.inr (9, ow, []))) (g : Int32) : Cq l yX9_shorter cX9_shorter 2 (some .int) 2 [.ref b, .int g] w (some (.int (g + nI 2))) := by
  refine Cq_start (ls := [some (.ref b), some (.int g)]) (by decide) rfl (Nat.le_of_ble_eq_true rfl) ?_
  intro Q hQ
  refine V_aload_n dX9_shorter_0 rfl ?_
  refine V_iload_n dX9_shorter_1 rfl ?_
  refine Vq_su (s_sh2 l hb g) dX9_shorter_2 (lw_SU q836 q832 q692 q830 q1695 q837) ⟨by decide, hs_X10_shorter.2.2⟩ (by decide) hb cl_X9 rfl (Nat.le_of_ble_eq_true rfl) ?_
  refine V_iconst dX9_shorter_5 li_2 ?_
  refine V_iadd dX9_shorter_6 ?_
  exact V_ireturn dX9_shorter_7 rfl hQ
theorem soN_0 : soN (nI 0) = 901 := by decide +kernel
theorem soN_1 : soN (nI 1) = 902 := by decide +kernel
theorem soN_2 : soN (nI 2) = 903 := by decide +kernel
def shI (s g : Int32) : Int32 := if s = nI 2 then g + nI 2 else lenI s g
theorem lenI_0 (g : Int32) : lenI (nI 0) g = g / nI 2 := if_pos (by decide +kernel)
theorem lenI_1 (g : Int32) : lenI (nI 1) g = nI 2 * g := by
  unfold lenI
  rw [if_neg (by decide +kernel), if_pos rfl]
theorem lenI_2 (g : Int32) : lenI (nI 2) g = g := by
  unfold lenI
  rw [if_neg (by decide +kernel), if_neg (by decide +kernel)]
section S1
variable {l : Launch} {M : xM} {pc : Nat} {ls : List (Option Value)} {st : List Value} {w : xW} {k n : Nat} {d0 c0 s0 index : Nat} {F0 : Nat → Prop} {Q0 : Option Value → xW → Prop} {X0 : String → Nat → xW → Prop}
theorem xo7 {b : Nat} {ow : Bool} {fs : List Value} (h : w b = some (.inr (7, ow, fs))) : xIs w b RX10 := .inl ⟨_, _, _, _, h, cl_X10, rfl⟩
theorem xo8 {b : Nat} {ow : Bool} {fs : List Value} (h : w b = some (.inr (8, ow, fs))) : xIs w b RX11 := .inl ⟨_, _, _, _, h, cl_X11, rfl⟩
theorem xo9 {b : Nat} {ow : Bool} {fs : List Value} (h : w b = some (.inr (9, ow, fs))) : xIs w b RX9 := .inl ⟨_, _, _, _, h, cl_X9, rfl⟩
theorem V_number {s : Int32} (hs : bd s 2) (hw : w 901 = some (.inr (7, false, [])) ∧ w 902 = some (.inr (8, false, [])) ∧ w 903 = some (.inr (9, false, []))) (hd : decode M.2.1 pc = .ok (.invokevirtual index, 3)) (hlk : Cond.methodLink M.1 index yX10_number ∈ lw_all) (hcat : (st.map fun v => v.category).sum ≤ 8) (hR : 4 ≤ d0)
    (kk : V l M (rmD d0 c0 s0, F0, Q0, X0) (pc + 3) ls (.int (s) :: st) w k n) : V l M (rmD d0 c0 s0, F0, Q0, X0) pc ls (.ref (soN s) :: st) w k n := by
  obtain ⟨j, hj, rfl⟩ := hs
  match j, hj, kk with
  | 0, _, kk =>
    rw [soN_0]
    exact Vq_v (s_nu0 l w 901) hd (lw_V hlk q685 q686 q1695 q693) hv_X10_number (by omega) hw.1 cl_X10 rfl rfl hcat kk
  | 1, _, kk =>
    rw [soN_1]
    exact Vq_o (s_nu1 l hw.2.1) hd (lw_O hlk q687 q685 q694 q695 q1696 q696) q693 hs_X10_number (by omega) (xo8 hw.2.1) rfl hcat kk
  | 2, _, kk =>
    rw [soN_2]
    exact Vq_o (s_nu2 l hw.2.2) hd (lw_O hlk q687 q685 q688 q689 q1694 q690) q693 hs_X10_number (by omega) (xo9 hw.2.2) rfl hcat kk
  | j + 3, hj, _ => exact absurd hj (by omega)
theorem V_longer {s : Int32} {g : Int32} (hs : bd s 2) (hw : w 901 = some (.inr (7, false, [])) ∧ w 902 = some (.inr (8, false, [])) ∧ w 903 = some (.inr (9, false, []))) (hd : decode M.2.1 pc = .ok (.invokevirtual index, 3)) (hlk : Cond.methodLink M.1 index yX10_longer ∈ lw_all) (hcat : (st.map fun v => v.category).sum ≤ 8) (hR : 4 ≤ d0)
    (kk : V l M (rmD d0 c0 s0, F0, Q0, X0) (pc + 3) ls (.int (lenI s g) :: st) w k n) : V l M (rmD d0 c0 s0, F0, Q0, X0) pc ls (.int g :: .ref (soN s) :: st) w k n := by
  obtain ⟨j, hj, rfl⟩ := hs
  match j, hj, kk with
  | 0, _, kk =>
    rw [soN_0]
    rw [lenI_0] at kk
    exact Vq_v (s_lg0 l w 901 g) hd (lw_V hlk q802 q803 q1695 q811) hv_X10_longer (by omega) hw.1 cl_X10 rfl rfl hcat kk
  | 1, _, kk =>
    rw [soN_1]
    rw [lenI_1] at kk
    exact Vq_o (s_lg1 l w 902 g) hd (lw_O hlk q804 q802 q808 q809 q1696 q810) q811 hs_X10_longer (by omega) (xo8 hw.2.1) rfl hcat kk
  | 2, _, kk =>
    rw [soN_2]
    rw [lenI_2] at kk
    exact Vq_o (s_lg2 l w 903 g) hd (lw_O hlk q804 q802 q805 q806 q1694 q807) q811 hs_X10_longer (by omega) (xo9 hw.2.2) rfl hcat kk
  | j + 3, hj, _ => exact absurd hj (by omega)
theorem V_shorter {s : Int32} {g : Int32} (hs : bd s 2) (hw : w 901 = some (.inr (7, false, [])) ∧ w 902 = some (.inr (8, false, [])) ∧ w 903 = some (.inr (9, false, []))) (hd : decode M.2.1 pc = .ok (.invokevirtual index, 3)) (hlk : Cond.methodLink M.1 index yX10_shorter ∈ lw_all) (hcat : (st.map fun v => v.category).sum ≤ 8) (hR : 4 ≤ d0)
    (kk : V l M (rmD d0 c0 s0, F0, Q0, X0) (pc + 3) ls (.int (shI s g) :: st) w k n) : V l M (rmD d0 c0 s0, F0, Q0, X0) pc ls (.int g :: .ref (soN s) :: st) w k n := by
  obtain ⟨j, hj, rfl⟩ := hs
  match j, hj, kk with
  | 0, _, kk =>
    rw [soN_0]
    rw [show shI (nI 0) g = g / nI 2 from (if_neg (by decide +kernel)).trans (lenI_0 g)] at kk
    exact Vq_v (s_sh0 l hw.1 g) hd (lw_V hlk q830 q831 q1695 q837) hv_X10_shorter (by omega) hw.1 cl_X10 rfl rfl hcat kk
  | 1, _, kk =>
    rw [soN_1]
    rw [show shI (nI 1) g = nI 2 * g from (if_neg (by decide +kernel)).trans (lenI_1 g)] at kk
    exact Vq_u (s_sh1 l hw.2.1 g) hd (lw_U hlk q832 q839 q830 q1695 q837) rfl hs_X10_shorter (by omega) (xo8 hw.2.1) rfl hcat kk
  | 2, _, kk =>
    rw [soN_2]
    rw [show shI (nI 2) g = g + nI 2 from if_pos rfl] at kk
    exact Vq_o (s_shA l hw.2.2 g) hd (lw_O hlk q832 q830 q833 q834 q1694 q835) q837 hs_X10_shorter (by omega) (xo9 hw.2.2) rfl hcat kk
  | j + 3, hj, _ => exact absurd hj (by omega)
end S1
set_option maxHeartbeats 4000000 in
theorem x_pby (l : Launch) {w : xW} {b : Nat} {s z : Int32} (hb : w b = some (.inr (4, true, [.ref (soN s), .int z]))) (hs : bd s 2) (hw : w 901 = some (.inr (7, false, [])) ∧ w 902 = some (.inr (8, false, [])) ∧ w 903 = some (.inr (9, false, []))) (what : Int32) : Cq l yX8_by cX8_by 2 (some .int) 5 [.ref b, .int what] w (some (.int (if what = 0 then s else z))) := by
  refine Cq_start (ls := [some (.ref b), some (.int what)]) (by decide) rfl (Nat.le_of_ble_eq_true rfl) ?_
  intro Q hQ
  refine V_iload_n dX8_by_0 rfl ?_
  refine V_if_ne (tgt := 14) dX8_by_1 (by decide) (fun c1 => ?_) (fun c1 => ?_)
  · refine V_aload_n dX8_by_14 rfl ?_
    refine V_getf (i := 1) k_X8 dX8_by_15 (by decide) q583 hb rfl ?_
    exact V_ireturn dX8_by_18 rfl (by rw [if_neg c1] at hQ; exact hQ)
  · refine V_aload_n dX8_by_4 rfl ?_
    refine V_getf (i := 0) k_X8 dX8_by_5 (by decide) q581 hb rfl ?_
    refine V_number hs hw dX8_by_8 q684 (Nat.le_of_ble_eq_true rfl) (by decide) ?_
    refine V_goto (tgt := 18) dX8_by_11 (by decide) ?_
    exact V_ireturn dX8_by_18 rfl (by rw [if_pos c1] at hQ; exact hQ)
set_option maxHeartbeats 4000000 in
theorem x_qby0 (l : Launch) {w : xW} {b : Nat} {a0 a1 a2 a3 : Int32} (hb : w b = some (.inr (5, true, [.int a0, .int a1, .int a2, .int a3]))) : Cq l yX7_by cX7_by 2 (some .int) 0 [.ref b, .int (nI 0)] w (some (.int a0)) := by
  refine Cq_start (ls := [some (.ref b), some (.int (nI 0))]) (by decide) rfl (Nat.le_of_ble_eq_true rfl) ?_
  intro Q hQ
  refine V_iload_n dX7_by_0 rfl ?_
  refine V_tableIn (tgt := 28) (off := 27) dX7_by_1 (by decide +kernel) (by decide +kernel) (by decide +kernel) (by decide) ?_
  refine V_aload_n dX7_by_28 rfl ?_
  refine V_getf (i := 0) k_X7 dX7_by_29 (by decide) q544 hb rfl ?_
  exact V_ireturn dX7_by_32 rfl hQ
set_option maxHeartbeats 4000000 in
theorem x_qby1 (l : Launch) {w : xW} {b : Nat} {a0 a1 a2 a3 : Int32} (hb : w b = some (.inr (5, true, [.int a0, .int a1, .int a2, .int a3]))) : Cq l yX7_by cX7_by 2 (some .int) 0 [.ref b, .int (nI 1)] w (some (.int a1)) := by
  refine Cq_start (ls := [some (.ref b), some (.int (nI 1))]) (by decide) rfl (Nat.le_of_ble_eq_true rfl) ?_
  intro Q hQ
  refine V_iload_n dX7_by_0 rfl ?_
  refine V_tableIn (tgt := 33) (off := 32) dX7_by_1 (by decide +kernel) (by decide +kernel) (by decide +kernel) (by decide) ?_
  refine V_aload_n dX7_by_33 rfl ?_
  refine V_getf (i := 1) k_X7 dX7_by_34 (by decide) q546 hb rfl ?_
  exact V_ireturn dX7_by_37 rfl hQ
set_option maxHeartbeats 4000000 in
theorem x_qby2 (l : Launch) {w : xW} {b : Nat} {a0 a1 a2 a3 : Int32} (hb : w b = some (.inr (5, true, [.int a0, .int a1, .int a2, .int a3]))) : Cq l yX7_by cX7_by 2 (some .int) 0 [.ref b, .int (nI 2)] w (some (.int a2)) := by
  refine Cq_start (ls := [some (.ref b), some (.int (nI 2))]) (by decide) rfl (Nat.le_of_ble_eq_true rfl) ?_
  intro Q hQ
  refine V_iload_n dX7_by_0 rfl ?_
  refine V_tableIn (tgt := 38) (off := 37) dX7_by_1 (by decide +kernel) (by decide +kernel) (by decide +kernel) (by decide) ?_
  refine V_aload_n dX7_by_38 rfl ?_
  refine V_getf (i := 2) k_X7 dX7_by_39 (by decide) q548 hb rfl ?_
  exact V_ireturn dX7_by_42 rfl hQ
set_option maxHeartbeats 4000000 in
theorem x_qby3 (l : Launch) {w : xW} {b : Nat} {a0 a1 a2 a3 : Int32} (hb : w b = some (.inr (5, true, [.int a0, .int a1, .int a2, .int a3]))) : Cq l yX7_by cX7_by 2 (some .int) 0 [.ref b, .int (nI 3)] w (some (.int a3)) := by
  refine Cq_start (ls := [some (.ref b), some (.int (nI 3))]) (by decide) rfl (Nat.le_of_ble_eq_true rfl) ?_
  intro Q hQ
  refine V_iload_n dX7_by_0 rfl ?_
  refine V_tableOut (tgt := 43) dX7_by_1 (by decide +kernel) (by decide) ?_
  refine V_aload_n dX7_by_43 rfl ?_
  refine V_getf (i := 3) k_X7 dX7_by_44 (by decide) q550 hb rfl ?_
  exact V_ireturn dX7_by_47 rfl hQ
def proV (a0 a1 a2 a3 what : Int32) : Int32 := if what = 0 then a0 else if what = nI 1 then a1 else if what = nI 2 then a2 else a3
theorem x_qby (l : Launch) {w : xW} {b : Nat} {a0 a1 a2 a3 what : Int32} (hb : w b = some (.inr (5, true, [.int a0, .int a1, .int a2, .int a3]))) (hw : bd what 3) : Cq l yX7_by cX7_by 2 (some .int) 0 [.ref b, .int what] w (some (.int (proV a0 a1 a2 a3 what))) := by
  obtain ⟨j, hj, rfl⟩ := hw
  unfold proV
  match j, hj with
  | 0, _ => rw [if_pos (by decide +kernel)]; exact x_qby0 l hb
  | 1, _ => rw [if_neg (by decide +kernel), if_pos rfl]; exact x_qby1 l hb
  | 2, _ => rw [if_neg (by decide +kernel), if_neg (by decide +kernel), if_pos rfl]; exact x_qby2 l hb
  | 3, _ => rw [if_neg (by decide +kernel), if_neg (by decide +kernel), if_neg (by decide +kernel)]; exact x_qby3 l hb
  | j + 4, hj => exact absurd hj (by omega)
set_option maxHeartbeats 4000000 in
theorem x_perI (l : Launch) {w : xW} {b s : Nat} (z : Int32) (hb : w b = some (.inr (4, true, [.null, .int 0]))) : Cr l yX8_init cX8_init 3 none 0 0 0 xF0 [.ref b, .ref s, .int z] w none (upw w b (.inr (4, true, [.ref s, .int z]))) := by
  refine Cr_start (ls := [some (.ref b), some (.ref s), some (.int z)]) (by decide) rfl (Nat.le_of_ble_eq_true rfl) (fun _ _ _ h => h) ?_
  intro Q hQ
  refine V_aload_n dX8_init_0 rfl ?_
  refine V_objInit dX8_init_1 q580 q131 q132 ⟨Nat.le_of_ble_eq_true rfl, Nat.le_of_ble_eq_true rfl⟩ (by decide) ?_
  refine V_aload_n dX8_init_4 rfl ?_
  refine V_aload_n dX8_init_5 rfl ?_
  refine V_putf (i := 0) k_X8 dX8_init_6 (by decide) q581 rfl hb (Nat.le_of_ble_eq_true rfl) (fun _ => rfl) (fun _ => rfl) ?_
  refine V_aload_n dX8_init_9 rfl ?_
  refine V_iload_n dX8_init_10 rfl ?_
  refine V_putf (i := 1) k_X8 dX8_init_11 (by decide) q583 rfl upw_self (Nat.le_of_ble_eq_true rfl) (fun _ => rfl) (fun _ => rfl) ?_
  rw [upw_upw]
  exact V_vreturn dX8_init_14 rfl hQ
set_option maxHeartbeats 4000000 in
theorem x_proI (l : Launch) {w : xW} {b : Nat} (a0 a1 a2 a3 : Int32) (hb : w b = some (.inr (5, true, [.int 0, .int 0, .int 0, .int 0]))) : Cr l yX7_init cX7_init 5 none 0 0 0 xF0 [.ref b, .int a0, .int a1, .int a2, .int a3] w none (upw w b (.inr (5, true, [.int a0, .int a1, .int a2, .int a3]))) := by
  refine Cr_start (ls := [some (.ref b), some (.int a0), some (.int a1), some (.int a2), some (.int a3)]) (by decide) rfl (Nat.le_of_ble_eq_true rfl) (fun _ _ _ h => h) ?_
  intro Q hQ
  refine V_aload_n dX7_init_0 rfl ?_
  refine V_objInit dX7_init_1 q543 q131 q132 ⟨Nat.le_of_ble_eq_true rfl, Nat.le_of_ble_eq_true rfl⟩ (by decide) ?_
  refine V_aload_n dX7_init_4 rfl ?_
  refine V_iload_n dX7_init_5 rfl ?_
  refine V_putF (i := 0) k_X7 dX7_init_6 (by decide) q544 rfl rfl rfl hb (Nat.le_of_ble_eq_true rfl) (fun _ => rfl) (fun _ => rfl) ?_
  refine V_aload_n dX7_init_9 rfl ?_
  refine V_iload_n dX7_init_10 rfl ?_
  refine V_putF (i := 1) k_X7 dX7_init_11 (by decide) q546 rfl rfl rfl upw_self (Nat.le_of_ble_eq_true rfl) (fun _ => rfl) (fun _ => rfl) ?_
  refine V_aload_n dX7_init_14 rfl ?_
  refine V_iload_n dX7_init_15 rfl ?_
  refine V_putF (i := 2) k_X7 dX7_init_16 (by decide) q548 rfl rfl rfl upw_self (Nat.le_of_ble_eq_true rfl) (fun _ => rfl) (fun _ => rfl) ?_
  refine V_aload_n dX7_init_19 rfl ?_
  refine V_iload dX7_init_20 rfl ?_
  refine V_putf (i := 3) k_X7 dX7_init_22 (by decide) q550 rfl upw_self (Nat.le_of_ble_eq_true rfl) (fun _ => rfl) (fun _ => rfl) ?_
  simp only [upw_upw]
  exact V_vreturn dX7_init_25 rfl hQ
