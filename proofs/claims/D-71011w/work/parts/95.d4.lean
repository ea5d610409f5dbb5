/-! PromiseTailor's side: what a person tells -/
set_option maxRecDepth 100000
theorem CO_cdK (d k : Nat) : ∀ j i h S, MI S → CO S (cdK d k j i h S).2
  | 0, _, _, _, hS => CO_rf hS
  | j + 1, i, h, S, hS => by rw [cdK_s]; exact CO_tr (CO_RT hS) (CO_cdK d k j _ _ _ (CO_RT hS).1)
theorem CO_cd (d k : Nat) (h : Int64) {S : xSt} (hS : MI S) : CO S (cdF d k h S).2 := CO_cdK d k 3 0 h S hS
theorem cdK_0 (d k i : Nat) (h : Int64) (S : xSt) : cdK d k 0 i h S = (h, S) := rfl
theorem itQ_2 (f : Nat → Int64 → xSt → xQ) (h : Int64) (S : xSt) : itQ f 2 0 h S = f 1 (f 0 h S).1 (f 0 h S).2 := rfl
def fWas (k i : Nat) (h : Int64) (S : xSt) : xQ := (mx h (if nI i = 0 then sizesF k (asToldF S) else sortsF k (asToldF S)).1, (if nI i = 0 then sizesF k (asToldF S) else sortsF k (asToldF S)).2)
def fWord (k i : Nat) (h : Int64) (S : xSt) : xQ := (31 * h + (wordF 5 k 14 (nI i) (asToldF S)).1, (wordF 5 k 14 (nI i) (asToldF S)).2)
theorem psF8_it (k : Nat) (h : Int64) (S : xSt) : psF8 k h S = itQ (fWord k) 2 0 h S := by
  rw [itQ_2]
  unfold psF8 psF9 fWord
  dsimp only
theorem psF5_it (k : Nat) (h : Int64) (S : xSt) : psF5 k h S = psF7 k (itQ (fWas k) 2 0 h S).1 (itQ (fWas k) 2 0 h S).2 := by
  rw [itQ_2]
  unfold psF5 psF6 fWas
  rw [if_pos (show nI 0 = 0 by decide +kernel), if_neg (show ¬ nI 1 = 0 by decide +kernel)]
theorem CO_was {S : xSt} (hS : MI S) (k : Nat) (what : Int32) : CO S (if what = 0 then sizesF k (asToldF S) else sortsF k (asToldF S)).2 := by
  by_cases c : what = 0
  · rw [if_pos c]; exact CO_sz hS
  · rw [if_neg c]; exact CO_so hS
theorem CO_fWord (k i : Nat) (h : Int64) (S : xSt) (hS : MI S) : CO S (fWord k i h S).2 ∧ SE (fWord k i h S).2 := by
  unfold fWord
  dsimp only
  exact ⟨CO_wo hS, SE_wo hS _ _ _ _⟩
theorem CO_fWas (k i : Nat) (h : Int64) (S : xSt) (hS : MI S) : CO S (fWas k i h S).2 := CO_was hS k (nI i)
theorem SE_itw (k : Nat) (h : Int64) {S : xSt} (hS : MI S) : SE (itQ (fWord k) 2 0 h S).2 := by
  rw [itQ_s]
  exact SE_it (CO_fWord k) 1 _ _ _ (CO_fWord k 0 h S hS).1.1 (CO_fWord k 0 h S hS).2
theorem CO_ps7 (k : Nat) (h : Int64) {S : xSt} (hS : MI S) : CO S (psF7 k h S).2 ∧ SE (psF7 k h S).2 := by
  have c := CO_ak hS (k := k)
  unfold psF7
  rw [psF8_it]
  exact ⟨CO_tr c (CO_it (fun i h S hS => (CO_fWord k i h S hS).1) _ _ _ _ c.1), SE_itw k _ c.1⟩
theorem CO_ps5 (k : Nat) (h : Int64) {S : xSt} (hS : MI S) : CO S (psF5 k h S).2 ∧ SE (psF5 k h S).2 := by
  have c := CO_it (fun i h S hS => CO_fWas k i h S hS) 2 0 h S hS
  rw [psF5_it]
  have z := CO_ps7 k (itQ (fWas k) 2 0 h S).1 c.1
  exact ⟨CO_tr c z.1, z.2⟩
theorem CO_ps (k : Nat) (hk : k < 8) (h : Int64) {S : xSt} (hS : MI S) : CO S (psF k h S).2 ∧ SE (psF k h S).2 := by
  unfold psF psF0
  have c0 := CO_cd 0 k (mx (mx h (personV S k (nI 0))) (personV S k (nI 1))) hS
  generalize cdF 0 k (mx (mx h (personV S k (nI 0))) (personV S k (nI 1))) S = q0 at *
  unfold psF1
  have c1 := CO_cd 6 k q0.1 c0.1
  generalize cdF 6 k q0.1 q0.2 = q1 at *
  unfold psF2
  have c2 := CO_cd 14 k q1.1 c1.1
  generalize cdF 14 k q1.1 q1.2 = q2 at *
  unfold psF3
  have c3 := CO_cd 23 k q2.1 c2.1
  generalize cdF 23 k q2.1 q2.2 = q3 at *
  unfold psF4
  have c4 := CO_sw c3.1 (day := 14) hk
  generalize swearF k 14 (asToldF q3.2) = q4 at *
  have c5 := CO_ps5 k (mx q3.1 q4.1) c4.1
  exact ⟨CO_tr c0 (CO_tr c1 (CO_tr c2 (CO_tr c3 (CO_tr c4 c5.1)))), c5.2⟩
theorem RQ_co {A B X : xSt} (h : RQ (RT A) X) (g : XR A X) (hA : MI A) (c : CO A B) : RQ (RT B) X ∧ XR B X := ⟨RQ_mv h (CO_XR g c) hA c, CO_XR g c⟩

set_option maxHeartbeats 1000000 in
theorem x_tellsDay (l : Launch) {S X : xSt} (hQ0 : RQ (RT S) X) (hX0 : XR S X) (hM : MI S) (h : Int64) {d k : Nat} (hd : d < 24) (hk : k < vN (asToldF S 2 0)) : Cq l yX0_tellsDay cX0_tellsDay 8 (some .long) 18 [.ref 0, .long h, .int (nI d), .int (nI k)] (wX X) (some (.long (cdF d k h S).1)) := by
  refine Cq_start (ls := [some (.ref 0), some (.long h), none, some (.int (nI d)), some (.int (nI k)), none, none, none]) (by decide) rfl (Nat.le_of_ble_eq_true rfl) ?_
  intro Q hQ
  have L6 : ∀ (j : Nat) (i : Nat) (a : Int64) (S1 : xSt) (hij : i + j = 3) (hQ1 : RQ (RT S1) X) (hX1 : XR S1 X) (hM1 : MI S1) (hk1 : k < vN (asToldF S1 2 0)) (hR : (cdK d k j i a S1).1 = (cdF d k h S).1), V l (yX0_tellsDay.cls, cX0_tellsDay, 8, (some .long), [], yX0_tellsDay.name) (rmD 18 0 0, xF0, Q, xX0) 6 [some (.ref 0), some (.long h), none, some (.int (nI d)), some (.int (nI k)), some (.long a), none, some (.int (nI i))] [] (wX X) 0 0 := by
    intro j
    induction j with
    | zero =>
      intro i a S1 hij hQ1 hX1 hM1 hk1 hR
      refine V_iload dX0_tellsDay_6 rfl ?_
      refine V_iconst dX0_tellsDay_8 li_3 ?_
      refine V_icmp_ge (tgt := 37) dX0_tellsDay_9 (by decide) (fun _ => ?_) (fun c9 => absurd (nI_le (by omega) (by omega)) c9)
      refine V_lload dX0_tellsDay_37 rfl ?_
      exact V_lreturn dX0_tellsDay_39 rfl (by have hR : a = _ := hR; rw [hR]; exact hQ)
    | succ j ih =>
      intro i a S1 hij hQ1 hX1 hM1 hk1 hR
      refine V_iload dX0_tellsDay_6 rfl ?_
      refine V_iconst dX0_tellsDay_8 li_3 ?_
      refine V_icmp_ge (tgt := 37) dX0_tellsDay_9 (by decide) (fun c9 => absurd c9 (nI_ge (by omega) (by omega))) (fun _ => ?_)
      refine V_ldc2 dX0_tellsDay_12 q1144 ?_
      refine V_lload dX0_tellsDay_15 rfl ?_
      refine V_lmul dX0_tellsDay_17 ?_
      refine V_aload_n dX0_tellsDay_18 rfl ?_
      refine V_iload_n dX0_tellsDay_19 rfl ?_
      refine V_iload dX0_tellsDay_20 rfl ?_
      refine V_iload dX0_tellsDay_22 rfl ?_
      refine Vq_v (x_coatBy l hQ1 (d := d) (k := k) hd (by rw [show RT S1 2 0 = asToldF S1 2 0 from congrFun (RT_fr S1 2 (by omega)) 0]; exact hk1) (nI i)) dX0_tellsDay_24 (lw_V q841 q843 qs15 q95 q844) hv_X0_coatBy (by decide) (wX_obj _) cl_X0 rfl rfl (Nat.le_of_ble_eq_true rfl) ?_
      refine V_i2l dX0_tellsDay_27 rfl ?_
      refine V_ladd dX0_tellsDay_28 ?_
      refine V_lstore dX0_tellsDay_29 rfl (Nat.le_of_ble_eq_true rfl) (Nat.le_of_ble_eq_true rfl) ?_
      refine V_iinc dX0_tellsDay_31 rfl (iinc_1 _) rfl (Nat.le_of_ble_eq_true rfl) ?_
      refine V_goto (tgt := 6) dX0_tellsDay_34 (by decide) ?_
      have hC := CO_RT hM1
      have z := RQ_co hQ1 hX1 hM1 hC
      exact ih (i + 1) _ (RT S1) (by omega) z.1 z.2 hC.1 (by rw [(CO_5 hC).2]; exact hk1) (by rw [← hR, cdK_s]; rfl)
  refine V_lload_n dX0_tellsDay_0 rfl ?_
  refine V_lstore dX0_tellsDay_1 rfl (Nat.le_of_ble_eq_true rfl) (Nat.le_of_ble_eq_true rfl) ?_
  refine V_iconst dX0_tellsDay_3 li_0 ?_
  refine V_istore dX0_tellsDay_4 rfl (Nat.le_of_ble_eq_true rfl) (Nat.le_of_ble_eq_true rfl) ?_
  exact L6 3 0 _ S rfl hQ0 hX0 hM hk rfl
set_option maxHeartbeats 1000000 in
theorem x_tellsPerson (l : Launch) {G X : xSt} (h0 : XR G X) (hM : MI G) (hF : FRS X) (hE : SE G) (h : Int64) {k : Nat} (hk : k < vN (asToldF G 2 0)) : Cx l yX0_tellsPerson (ws_ yX0_tellsPerson cX0_tellsPerson 7 (some .long)) 70 [.ref 0, .long h, .int (nI k)] X (fun r X' => ∃ x, r = some (.long x) ∧ x = (psF k h G).1 ∧ XR (psF k h G).2 X' ∧ FRS X') := by
  refine Cz_start (ls := [some (.ref 0), some (.long h), none, some (.int (nI k)), none, none, none]) (by decide) rfl (Nat.le_of_ble_eq_true rfl) fF_lo ?_
  intro Q hQ
  have hN := bd_v (PV_asTold hM).1 (by decide)
  have hk8 : k < 8 := by omega
  generalize hRR : psF k h G = R at hQ
  have L149 : ∀ (j : Nat) (i : Nat) (a : Int64) (S X1 : xSt) (hX : XR S X1) (hMS : MI S) (hF1 : FRS X1) (hk1 : k < vN (asToldF S 2 0)) (hij : i + j = 2) (hR : itQ (fWord k) j i a S = R), V l (yX0_tellsPerson.cls, cX0_tellsPerson, 7, (some .long), [], yX0_tellsPerson.name) (rmD 70 (rc X) (rs X), fF X, Q, xX0) 149 [some (.ref 0), some (.long h), none, some (.int (nI k)), some (.long a), none, some (.int (nI i))] [] (wX X1) 0 0 := by
    intro j
    induction j with
    | zero =>
      intro i a S X1 hX hMS hF1 hk1 hij hR
      refine V_iload dX0_tellsPerson_149 rfl ?_
      refine V_iconst dX0_tellsPerson_151 li_2 ?_
      refine V_icmp_ge (tgt := 180) dX0_tellsPerson_152 (by decide) (fun _ => ?_) (fun c152 => absurd (nI_le (by omega) (by omega)) c152)
      refine V_lload dX0_tellsPerson_180 rfl ?_
      exact V_lreturn dX0_tellsPerson_182 rfl (hQ _ _ ⟨_, rfl, ⟨by rw [← hR, itQ_0], by rw [← hR, itQ_0]; exact hX, hF1⟩⟩)
    | succ j ih =>
      intro i a S X1 hX hMS hF1 hk1 hij hR
      refine V_iload dX0_tellsPerson_149 rfl ?_
      refine V_iconst dX0_tellsPerson_151 li_2 ?_
      refine V_icmp_ge (tgt := 180) dX0_tellsPerson_152 (by decide) (fun c152 => absurd c152 (nI_ge (by omega) (by omega))) (fun _ => ?_)
      refine V_ldc2 dX0_tellsPerson_155 q1144 ?_
      refine V_lload dX0_tellsPerson_158 rfl ?_
      refine V_lmul dX0_tellsPerson_160 ?_
      refine V_aload_n dX0_tellsPerson_161 rfl ?_
      refine V_iconst dX0_tellsPerson_162 li_5 ?_
      refine V_iload_n dX0_tellsPerson_163 rfl ?_
      refine V_bipush dX0_tellsPerson_164 lb_14 ?_
      refine V_iload dX0_tellsPerson_166 rfl ?_
      refine Vz_wL (k' := 0) (n' := 0) (x_wordOf l hX.1 (XR_10 hX) (c := 5) (k := k) (day := 14) (what := nI i) (by decide) hk1 (by decide)) dX0_tellsPerson_168 (lw_VW q996 q998 qs35 q95 q999) hv_X0_wordOf (by decide) (wX_obj _) cl_X0 rfl rfl (Nat.le_of_ble_eq_true rfl) (fF_FR hF1) (okl_c (ok_r (fF_ok (.inl (Nat.le_of_ble_eq_true rfl)))) (okl_c ok_l (okl_n (okl_c ok_i (okl_c ok_l (okl_n (okl_c ok_i okl_0))))))) (oks_c ok_l oks_0) ⟨by rw [(rc_0 hF1).1]; exact Nat.zero_le _, by rw [(rc_0 hF1).2]; exact Nat.zero_le _⟩ (fun x3 X3 h3 => ?_)
      obtain ⟨e3, h4, h5⟩ := h3
      have hC := CO_wo hMS (c := 5) (k := k) (day := 14) (what := nI i)
      have hX3 := CO_XR (XR_FV hX h4 h5) hC
      have hF3 := FRS_FV hF1 h5
      refine V_ladd dX0_tellsPerson_171 ?_
      refine V_lstore dX0_tellsPerson_172 rfl (Nat.le_of_ble_eq_true rfl) (Nat.le_of_ble_eq_true rfl) ?_
      refine V_iinc dX0_tellsPerson_174 rfl (iinc_1 _) rfl (Nat.le_of_ble_eq_true rfl) ?_
      refine V_goto (tgt := 149) dX0_tellsPerson_177 (by decide) ?_
      exact ih (i + 1) _ _ X3 hX3 hC.1 hF3 (by rw [(CO_5 hC).2]; exact hk1) (by omega) (by rw [← hR, itQ_s, e3]; unfold fWord; dsimp only)
  have J131 : ∀ (a : Int64) (xx : Option Value) (S X1 : xSt) (hX : XR S X1) (hMS : MI S) (hF1 : FRS X1) (hk1 : k < vN (asToldF S 2 0)) (hxx : xx = some (.int (nI 2))) (hR : psF7 k a S = R), V l (yX0_tellsPerson.cls, cX0_tellsPerson, 7, (some .long), [], yX0_tellsPerson.name) (rmD 70 (rc X) (rs X), fF X, Q, xX0) 131 [some (.ref 0), some (.long h), none, some (.int (nI k)), some (.long a), none, xx] [] (wX X1) 0 0 := by
    intro a xx S X1 hX hMS hF1 hk1 hxx hR
    rw [hxx]
    refine V_ldc2 dX0_tellsPerson_131 q1144 ?_
    refine V_lload dX0_tellsPerson_134 rfl ?_
    refine V_lmul dX0_tellsPerson_136 ?_
    refine V_aload_n dX0_tellsPerson_137 rfl ?_
    refine V_iload_n dX0_tellsPerson_138 rfl ?_
    refine Vz_vI (k' := 0) (n' := 0) (x_askOf l hX.1 (LI_0 hMS).2.1 hF1.1 (k := k) hk1) dX0_tellsPerson_139 (lw_V q983 q985 qs33 q95 q986) hv_X0_askOf (by decide) (wX_obj _) cl_X0 rfl rfl (Nat.le_of_ble_eq_true rfl) (fF_FR hF1) (okl_c (ok_r (fF_ok (.inl (Nat.le_of_ble_eq_true rfl)))) (okl_c ok_l (okl_n (okl_c ok_i (okl_c ok_l (okl_n (okl_c ok_i okl_0))))))) (oks_c ok_l oks_0) ⟨by rw [(rc_0 hF1).1]; exact Nat.zero_le _, by rw [(rc_0 hF1).2]; exact Nat.zero_le _⟩ (fun x3 X3 h3 => ?_)
    obtain ⟨e3, h4, h5⟩ := h3
    have hC := CO_ak hMS (k := k)
    have hX3 := CO_XR (XR_FV hX h4 h5) hC
    have hF3 := FRS_FV hF1 h5
    refine V_i2l dX0_tellsPerson_142 rfl ?_
    refine V_ladd dX0_tellsPerson_143 ?_
    refine V_lstore dX0_tellsPerson_144 rfl (Nat.le_of_ble_eq_true rfl) (Nat.le_of_ble_eq_true rfl) ?_
    refine V_iconst dX0_tellsPerson_146 li_0 ?_
    refine V_istore dX0_tellsPerson_147 rfl (Nat.le_of_ble_eq_true rfl) (Nat.le_of_ble_eq_true rfl) ?_
    refine L149 2 0 _ _ X3 hX3 hC.1 hF3 (by rw [(CO_5 hC).2]; exact hk1) rfl ?_
    rw [← hR, e3, mx_e]
    unfold psF7
    rw [psF8_it]
  have L102 : ∀ (j : Nat) (i : Nat) (a : Int64) (S X1 : xSt) (hX : XR S X1) (hMS : MI S) (hF1 : FRS X1) (hk1 : k < vN (asToldF S 2 0)) (hij : i + j = 2) (hR : psF7 k (itQ (fWas k) j i a S).1 (itQ (fWas k) j i a S).2 = R), V l (yX0_tellsPerson.cls, cX0_tellsPerson, 7, (some .long), [], yX0_tellsPerson.name) (rmD 70 (rc X) (rs X), fF X, Q, xX0) 102 [some (.ref 0), some (.long h), none, some (.int (nI k)), some (.long a), none, some (.int (nI i))] [] (wX X1) 0 0 := by
    intro j
    induction j with
    | zero =>
      intro i a S X1 hX hMS hF1 hk1 hij hR
      refine V_iload dX0_tellsPerson_102 rfl ?_
      refine V_iconst dX0_tellsPerson_104 li_2 ?_
      refine V_icmp_ge (tgt := 131) dX0_tellsPerson_105 (by decide) (fun _ => ?_) (fun c105 => absurd (nI_le (by omega) (by omega)) c105)
      exact J131 a _ S X1 hX hMS hF1 hk1 (by rw [show i = 2 from by omega]) (by rw [← hR, itQ_0])
    | succ j ih =>
      intro i a S X1 hX hMS hF1 hk1 hij hR
      refine V_iload dX0_tellsPerson_102 rfl ?_
      refine V_iconst dX0_tellsPerson_104 li_2 ?_
      refine V_icmp_ge (tgt := 131) dX0_tellsPerson_105 (by decide) (fun c105 => absurd c105 (nI_ge (by omega) (by omega))) (fun _ => ?_)
      refine V_ldc2 dX0_tellsPerson_108 q1144 ?_
      refine V_lload dX0_tellsPerson_111 rfl ?_
      refine V_lmul dX0_tellsPerson_113 ?_
      refine V_aload_n dX0_tellsPerson_114 rfl ?_
      refine V_iload_n dX0_tellsPerson_115 rfl ?_
      refine V_iload dX0_tellsPerson_116 rfl ?_
      refine Vz_vI (k' := 0) (n' := 0) (x_wasOf l hX.1 (LI_0 hMS).2.1 hF1.1 (k := k) (what := nI i) hk1) dX0_tellsPerson_118 (lw_V q966 q968 qs30 q95 q969) hv_X0_wasOf (by decide) (wX_obj _) cl_X0 rfl rfl (Nat.le_of_ble_eq_true rfl) (fF_FR hF1) (okl_c (ok_r (fF_ok (.inl (Nat.le_of_ble_eq_true rfl)))) (okl_c ok_l (okl_n (okl_c ok_i (okl_c ok_l (okl_n (okl_c ok_i okl_0))))))) (oks_c ok_l oks_0) ⟨by rw [(rc_0 hF1).1]; exact Nat.zero_le _, by rw [(rc_0 hF1).2]; exact Nat.zero_le _⟩ (fun x3 X3 h3 => ?_)
      obtain ⟨e3, h4, h5⟩ := h3
      have hC := CO_was hMS k (nI i)
      have hX3 := CO_XR (XR_FV hX h4 h5) hC
      have hF3 := FRS_FV hF1 h5
      refine V_i2l dX0_tellsPerson_121 rfl ?_
      refine V_ladd dX0_tellsPerson_122 ?_
      refine V_lstore dX0_tellsPerson_123 rfl (Nat.le_of_ble_eq_true rfl) (Nat.le_of_ble_eq_true rfl) ?_
      refine V_iinc dX0_tellsPerson_125 rfl (iinc_1 _) rfl (Nat.le_of_ble_eq_true rfl) ?_
      refine V_goto (tgt := 102) dX0_tellsPerson_128 (by decide) ?_
      exact ih (i + 1) _ _ X3 hX3 hC.1 hF3 (by rw [(CO_5 hC).2]; exact hk1) (by omega) (by rw [← hR, itQ_s, e3, mx_e]; unfold fWas; dsimp only)
  refine V_aload_n dX0_tellsPerson_0 rfl ?_
  refine Vz_vV (k' := 0) (n' := 0) (x_find l h0.1.1) dX0_tellsPerson_1 (lw_V q789 q791 qs9 q95 q792) hv_X0_find (by decide) (wX_obj _) cl_X0 rfl rfl (Nat.le_of_ble_eq_true rfl) (fun _ z => z) (okl_c (ok_r (fF_ok (.inl (Nat.le_of_ble_eq_true rfl)))) (okl_c ok_l (okl_n (okl_c ok_i (okl_n (okl_n (okl_n okl_0))))))) oks_0 ⟨Nat.le_refl _, Nat.le_refl _⟩ (fun X2 h2 => ?_)
  have hR1 := XR_find h0 h2.1 h2.2.2
  have hQ2 : RQ (RT G) X2 := by unfold RT; exact RQ_of h2.1 h2.2.1
  obtain ⟨hl, c0, d0, c1, d1, n2, b2, n5, b5, m2, m5, y0, y1⟩ := RD_x h2.1.1 h2.1.2.1
  have f2 : runsF (asToldF G) 2 0 = asToldF G 2 0 := congrFun (runsF_fr _ 2 (by omega)) 0
  have hF2 : FRS X2 := h2.1.2.1
  rw [f2] at c0 d0
  have z1 := y0.2 k (by rw [f2]; exact hk)
  have tb := h2.1.1.2.2.2.2.2.1.1 k (by rw [f2]; exact hk)
  rw [runsF_fr _ 3 (by omega), runsF_fr _ 4 (by omega)] at z1
  rw [runsF_fr _ 3 (by omega)] at tb
  have z2 := hE.2.2.2.1 k hk
  have q0 : RQ (RT G) X2 ∧ XR G X2 := ⟨hQ2, hR1⟩
  have hk0 := hk
  have J51 : ∀ (a : Int64) (hR : psF0 k a G = R), V l (yX0_tellsPerson.cls, cX0_tellsPerson, 7, (some .long), [], yX0_tellsPerson.name) (rmD 70 (rc X) (rs X), fF X, Q, xX0) 51 [some (.ref 0), some (.long h), none, some (.int (nI k)), some (.long a), none, some (.int (nI 2))] [] (wX X2) 0 0 := by
    intro a hR
    have e0 := CO_cd 0 k a hM
    have q1 := RQ_co q0.1 q0.2 hM e0
    unfold psF0 at hR
    generalize hc0 : cdF 0 k a G = C0 at e0 q1 hR
    have hk6 : k < vN (asToldF C0.2 2 0) := by rw [(CO_5 e0).2]; exact hk
    have e1 := CO_cd 6 k C0.1 e0.1
    have q2 := RQ_co q1.1 q1.2 e0.1 e1
    unfold psF1 at hR
    generalize hc1 : cdF 6 k C0.1 C0.2 = C1 at e1 q2 hR
    have hk14 : k < vN (asToldF C1.2 2 0) := by rw [(CO_5 e1).2]; exact hk6
    have e2 := CO_cd 14 k C1.1 e1.1
    have q3 := RQ_co q2.1 q2.2 e1.1 e2
    unfold psF2 at hR
    generalize hc2 : cdF 14 k C1.1 C1.2 = C2 at e2 q3 hR
    have hk23 : k < vN (asToldF C2.2 2 0) := by rw [(CO_5 e2).2]; exact hk14
    have e3 := CO_cd 23 k C2.1 e2.1
    have q4 := RQ_co q3.1 q3.2 e2.1 e3
    unfold psF3 at hR
    generalize hc3 : cdF 23 k C2.1 C2.2 = C3 at e3 q4 hR
    have hkS : k < vN (asToldF C3.2 2 0) := by rw [(CO_5 e3).2]; exact hk23
    refine V_aload_n dX0_tellsPerson_51 rfl ?_
    refine V_aload_n dX0_tellsPerson_52 rfl ?_
    refine V_aload_n dX0_tellsPerson_53 rfl ?_
    refine V_aload_n dX0_tellsPerson_54 rfl ?_
    refine V_lload dX0_tellsPerson_55 rfl ?_
    refine V_iconst dX0_tellsPerson_57 li_0 ?_
    refine V_iload_n dX0_tellsPerson_58 rfl ?_
    refine Vq_v (x_tellsDay l q0.1 q0.2 hM _ (d := 0) (k := k) (by decide) hk0) dX0_tellsPerson_59 (lw_V q1154 q1156 qs42 q95 q1157) hv_X0_tellsDay (by decide) (wX_obj _) cl_X0 rfl rfl (Nat.le_of_ble_eq_true rfl) ?_
    rw [hc0]
    refine V_bipush dX0_tellsPerson_62 lb_6 ?_
    refine V_iload_n dX0_tellsPerson_64 rfl ?_
    refine Vq_v (x_tellsDay l q1.1 q1.2 e0.1 _ (d := 6) (k := k) (by decide) hk6) dX0_tellsPerson_65 (lw_V q1154 q1156 qs42 q95 q1157) hv_X0_tellsDay (by decide) (wX_obj _) cl_X0 rfl rfl (Nat.le_of_ble_eq_true rfl) ?_
    rw [hc1]
    refine V_bipush dX0_tellsPerson_68 lb_14 ?_
    refine V_iload_n dX0_tellsPerson_70 rfl ?_
    refine Vq_v (x_tellsDay l q2.1 q2.2 e1.1 _ (d := 14) (k := k) (by decide) hk14) dX0_tellsPerson_71 (lw_V q1154 q1156 qs42 q95 q1157) hv_X0_tellsDay (by decide) (wX_obj _) cl_X0 rfl rfl (Nat.le_of_ble_eq_true rfl) ?_
    rw [hc2]
    refine V_bipush dX0_tellsPerson_74 lb_23 ?_
    refine V_iload_n dX0_tellsPerson_76 rfl ?_
    refine Vq_v (x_tellsDay l q3.1 q3.2 e2.1 _ (d := 23) (k := k) (by decide) hk23) dX0_tellsPerson_77 (lw_V q1154 q1156 qs42 q95 q1157) hv_X0_tellsDay (by decide) (wX_obj _) cl_X0 rfl rfl (Nat.le_of_ble_eq_true rfl) ?_
    rw [hc3]
    refine V_lstore dX0_tellsPerson_80 rfl (Nat.le_of_ble_eq_true rfl) (Nat.le_of_ble_eq_true rfl) ?_
    refine V_ldc2 dX0_tellsPerson_82 q1144 ?_
    refine V_lload dX0_tellsPerson_85 rfl ?_
    refine V_lmul dX0_tellsPerson_87 ?_
    refine V_aload_n dX0_tellsPerson_88 rfl ?_
    refine V_iload_n dX0_tellsPerson_89 rfl ?_
    refine V_bipush dX0_tellsPerson_90 lb_14 ?_
    refine Vz_wI (k' := 0) (n' := 0) (x_swearOf l q4.2.1 (k := k) (day := 14) hkS (by decide)) dX0_tellsPerson_92 (lw_VW q907 q909 qs23 q95 q910) hv_X0_swearOf (by decide) (wX_obj _) cl_X0 rfl rfl (Nat.le_of_ble_eq_true rfl) (fF_FR hF2) (okl_c (ok_r (fF_ok (.inl (Nat.le_of_ble_eq_true rfl)))) (okl_c ok_l (okl_n (okl_c ok_i (okl_c ok_l (okl_n (okl_c ok_i okl_0))))))) (oks_c ok_l oks_0) ⟨by rw [(rc_0 hF2).1]; exact Nat.zero_le _, by rw [(rc_0 hF2).2]; exact Nat.zero_le _⟩ (fun x3 X3 h3 => ?_)
    obtain ⟨e_3, h4, h5⟩ := h3
    have hC := CO_sw e3.1 (day := 14) hk8
    have hX3 := CO_XR (XR_FV q4.2 h4 h5) hC
    have hF3 := FRS_FV hF2 h5
    refine V_i2l dX0_tellsPerson_95 rfl ?_
    refine V_ladd dX0_tellsPerson_96 ?_
    refine V_lstore dX0_tellsPerson_97 rfl (Nat.le_of_ble_eq_true rfl) (Nat.le_of_ble_eq_true rfl) ?_
    refine V_iconst dX0_tellsPerson_99 li_0 ?_
    refine V_istore dX0_tellsPerson_100 rfl (Nat.le_of_ble_eq_true rfl) (Nat.le_of_ble_eq_true rfl) ?_
    refine L102 2 0 _ _ X3 hX3 hC.1 hF3 (by rw [(CO_5 hC).2]; exact hkS) rfl ?_
    rw [← hR, e_3, mx_e]
    unfold psF4
    rw [psF5_it]
  have L10 : ∀ (j : Nat) (i : Nat) (a : Int64) (hij : i + j = 2) (hA : itH (fun i h => mx h (personV G k (nI i))) j i a = mx (mx h (personV G k (nI 0))) (personV G k (nI 1))), V l (yX0_tellsPerson.cls, cX0_tellsPerson, 7, (some .long), [], yX0_tellsPerson.name) (rmD 70 (rc X) (rs X), fF X, Q, xX0) 10 [some (.ref 0), some (.long h), none, some (.int (nI k)), some (.long a), none, some (.int (nI i))] [] (wX X2) 0 0 := by
    intro j
    induction j with
    | zero =>
      intro i a hij hA
      refine V_iload dX0_tellsPerson_10 rfl ?_
      refine V_iconst dX0_tellsPerson_12 li_2 ?_
      refine V_icmp_ge (tgt := 51) dX0_tellsPerson_13 (by decide) (fun _ => ?_) (fun c13 => absurd (nI_le (by omega) (by omega)) c13)
      have hA : a = _ := hA
      rw [hA, show i = 2 from by omega]
      exact J51 _ hRR
    | succ j ih =>
      intro i a hij hA
      refine V_iload dX0_tellsPerson_10 rfl ?_
      refine V_iconst dX0_tellsPerson_12 li_2 ?_
      refine V_icmp_ge (tgt := 51) dX0_tellsPerson_13 (by decide) (fun c13 => absurd c13 (nI_ge (by omega) (by omega))) (fun _ => ?_)
      refine V_ldc2 dX0_tellsPerson_16 q1144 ?_
      refine V_lload dX0_tellsPerson_19 rfl ?_
      refine V_lmul dX0_tellsPerson_21 ?_
      refine V_aload_n dX0_tellsPerson_22 rfl ?_
      refine V_getf (i := 1) k_X0 dX0_tellsPerson_23 (by decide) q228 (wX_obj _) rfl ?_
      refine V_getfU (i := 6) k_X2 dX0_tellsPerson_26 (by decide) q175 q176 (wX_tx0 _) rfl ?_
      refine V_iload_n dX0_tellsPerson_29 rfl ?_
      refine V_get (q := 0) (hl 0 (by decide)) rfl (by omega) dX0_tellsPerson_30 (lw_V q665 q666 q667 q100 q668) (Nat.le_of_ble_eq_true rfl) (by decide) ?_
      rw [eln_0]
      refine V_castE dX0_tellsPerson_33 q679 (.inl ⟨_, _, _, _, (wX_per _ (d := k) (by omega) (show k < std X2 0 by omega)), cl_X8, rfl⟩) ?_
      refine V_iload dX0_tellsPerson_36 rfl ?_
      refine Vq_v (x_pby l (wX_per X2 (d := k) (by omega) (show k < std X2 0 by omega)) (by rw [z1.1]; exact tb.1) (so3 X2) (nI i)) dX0_tellsPerson_38 (lw_V q680 q681 q682 q114 q683) hv_X8_by (by decide) (wX_per _ (d := k) (by omega) (show k < std X2 0 by omega)) cl_X8 rfl rfl (Nat.le_of_ble_eq_true rfl) ?_
      refine V_i2l dX0_tellsPerson_41 rfl ?_
      refine V_ladd dX0_tellsPerson_42 ?_
      refine V_lstore dX0_tellsPerson_43 rfl (Nat.le_of_ble_eq_true rfl) (Nat.le_of_ble_eq_true rfl) ?_
      refine V_iinc dX0_tellsPerson_45 rfl (iinc_1 _) rfl (Nat.le_of_ble_eq_true rfl) ?_
      refine V_goto (tgt := 10) dX0_tellsPerson_48 (by decide) ?_
      exact ih (i + 1) _ (by omega) (by rw [← hA, itH_s]; rw [mx_e]; unfold personV; rw [z1.1, z1.2, z2.1, z2.2])
  refine V_lload_n dX0_tellsPerson_4 rfl ?_
  refine V_lstore dX0_tellsPerson_5 rfl (Nat.le_of_ble_eq_true rfl) (Nat.le_of_ble_eq_true rfl) ?_
  refine V_iconst dX0_tellsPerson_7 li_0 ?_
  refine V_istore dX0_tellsPerson_8 rfl (Nat.le_of_ble_eq_true rfl) (Nat.le_of_ble_eq_true rfl) ?_
  exact L10 2 0 _ rfl rfl
