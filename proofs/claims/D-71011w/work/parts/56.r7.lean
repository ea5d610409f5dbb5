/-! PromiseTailor's side: the walk of a day -/
set_option maxRecDepth 100000
/-- what odd promise there is, of the model -/
theorem XO_21 {T X : xSt} (h : XT T X) : (vN (T 21 0) = vN (T 5 0) ∨ (vN (T 21 0) = vN (T 5 0) + 1 ∧ T 9 (vN (T 5 0)) = -1)) ∧ vN (T 5 0) ≤ vN (T 21 0) ∧ vN (T 21 0) ≤ 11 := by
  have b5 := (bd_v h.2.2.2.2.1.2.1 (by decide)).2
  rcases h.2.2.2.1 with ⟨-, o⟩ | ⟨q, -, -, o, -, -, -, o9⟩
  · rw [o]; exact ⟨.inl rfl, Nat.le_refl _, by omega⟩
  · rw [o, vN_nI (by omega)]; exact ⟨.inr ⟨rfl, o9⟩, by omega, by omega⟩
set_option maxHeartbeats 4000000 in
theorem x_passes_ (l : Launch) {T X : xSt} (hD0 : RD T X) {d : Nat} (hd : d < 24) (h55 : X 55 0 = nI d) : Cy l yX0_passes (ws_ yX0_passes cX0_passes 4 none) 18 [.ref 0, .int (nI d)] X (fun r X' => r = none ∧ ∃ Y, X' = cpD d Y ∧ frx X Y ∧ Y 55 0 = nI d ∧ RD (goesF d T) X') := by
  refine Cz_start (ls := [some (.ref 0), some (.int (nI d)), none, none]) (by decide) rfl (Nat.le_of_ble_eq_true rfl) (fun _ _ _ h => h) ?_
  intro Q hQ
  have S218 : ∀ (l2 l3 : Option Value) (T1 X1 : xSt), RD T1 X1 → fr T T1 → frx X X1 → X1 55 0 = nI d → ressF d (recsF d T1) = goesF d T → V l (yX0_passes.cls, cX0_passes, 4, none, [], yX0_passes.name) (rmD 18 0 0, xF0, Q, xX0) 218 [some (.ref 0), some (.int (nI d)), l2, l3] [] (wX X1) 0 0 := by
    intro l2 l3 T1 X1 hD hT hX h5 hR
    refine V_aload_n dX0_passes_218 rfl ?_
    refine V_getf (i := 6) k_X0 dX0_passes_219 (by decide) q233 (wX_obj _) rfl ?_
    refine V_iconst dX0_passes_222 li_0 ?_
    refine V_aload_n dX0_passes_223 rfl ?_
    refine V_getf (i := 9) k_X0 dX0_passes_224 (by decide) q236 (wX_obj _) rfl ?_
    refine V_iload_n dX0_passes_227 rfl ?_
    refine Vx_aa_coatsBy dX0_passes_228 rfl hd ?_
    refine V_iconst dX0_passes_229 li_0 ?_
    refine V_bipush dX0_passes_230 lb_8 ?_
    refine V_cp30 hd dX0_passes_232 q840 q645 q644 q117 ⟨Nat.le_of_ble_eq_true rfl, Nat.le_of_ble_eq_true rfl⟩ (Nat.le_of_ble_eq_true rfl) ?_
    refine V_aload_n dX0_passes_235 rfl ?_
    refine V_getf (i := 7) k_X0 dX0_passes_236 (by decide) q234 (wX_obj _) rfl ?_
    refine V_iconst dX0_passes_239 li_0 ?_
    refine V_aload_n dX0_passes_240 rfl ?_
    refine V_getf (i := 10) k_X0 dX0_passes_241 (by decide) q237 (wX_obj _) rfl ?_
    refine V_iload_n dX0_passes_244 rfl ?_
    refine Vx_aa_tornBy dX0_passes_245 rfl hd ?_
    refine V_iconst dX0_passes_246 li_0 ?_
    refine V_bipush dX0_passes_247 lb_8 ?_
    refine V_cp31 hd dX0_passes_249 q840 q645 q644 q117 ⟨Nat.le_of_ble_eq_true rfl, Nat.le_of_ble_eq_true rfl⟩ (Nat.le_of_ble_eq_true rfl) ?_
    refine V_aload_n dX0_passes_252 rfl ?_
    refine V_getf (i := 8) k_X0 dX0_passes_253 (by decide) q235 (wX_obj _) rfl ?_
    refine V_iconst dX0_passes_256 li_0 ?_
    refine V_aload_n dX0_passes_257 rfl ?_
    refine V_getf (i := 11) k_X0 dX0_passes_258 (by decide) q238 (wX_obj _) rfl ?_
    refine V_iload_n dX0_passes_261 rfl ?_
    refine Vx_aa_statesBy dX0_passes_262 rfl hd ?_
    refine V_iconst dX0_passes_263 li_0 ?_
    refine V_bipush dX0_passes_264 lb_10 ?_
    refine V_cp32 hd dX0_passes_266 q840 q645 q644 q117 ⟨Nat.le_of_ble_eq_true rfl, Nat.le_of_ble_eq_true rfl⟩ (Nat.le_of_ble_eq_true rfl) ?_
    have e21 := XO_21 hD.1
    have hF := RD_cp hd h5 e21.2.1 e21.2.2 hD
    rw [hR] at hF
    rw [← wX_55 _ (nI (d + 1))]
    exact V_vreturn dX0_passes_269 rfl (hQ _ _ ⟨rfl, ⟨X1, rfl, hX, h5, hF⟩⟩)
  have S162 : ∀ (j i : Nat) (l3 : Option Value) (T1 X1 : xSt), i + j = cnt X 4 → RD T1 X1 → fr T T1 → frx X X1 → X1 55 0 = nI d → ressF d (recsF d (itF (ltF (nI d)) j i T1)) = goesF d T → V l (yX0_passes.cls, cX0_passes, 4, none, [], yX0_passes.name) (rmD 18 0 0, xF0, Q, xX0) 162 [some (.ref 0), some (.int (nI d)), some (.int (nI i)), l3] [] (wX X1) 0 0 := by
    intro j
    induction j with
    | zero =>
      intro i l3 T1 X1 hij hD hT hX h5 hR
      have hl := hD.1.1.2.1
      have e0 : cnt X1 4 = cnt X 4 := by unfold cnt; rw [hX (szr 4) (by decide)]
      have hb6 : cnt X1 4 ≤ 6 := (bd_v hD.1.1.2.2.2.2.2.2.2.2.2.2.2.2.1 (by decide)).2
      refine V_iload_n dX0_passes_162 rfl ?_
      refine V_aload_n dX0_passes_163 rfl ?_
      refine V_getf (i := 5) k_X0 dX0_passes_164 (by decide) q232 (wX_obj _) rfl ?_
      refine V_size (q := 4) (hl 4 (by decide)) dX0_passes_167 (lw_V q725 q365 q366 q100 q367) (Nat.le_of_ble_eq_true rfl) (by decide) ?_
      refine V_icmp_ge (tgt := 218) dX0_passes_170 (by decide) (fun _ => ?_) (fun c170 => absurd (nI_le (by omega) (by omega)) c170)
      exact S218 _ _ T1 X1 hD hT hX h5 hR
    | succ j ih =>
      intro i l3 T1 X1 hij hD hT hX h5 hR
      obtain ⟨hl, c0, d0, c1, d1, n2, b2, n5, b5, m2, m5, y0, y1⟩ := RD_x hD.1 hD.2.1
      have e0 : cnt X1 4 = cnt X 4 := by unfold cnt; rw [hX (szr 4) (by decide)]
      have hb6 : cnt X1 4 ≤ 6 := (bd_v hD.1.1.2.2.2.2.2.2.2.2.2.2.2.2.1 (by decide)).2
      have hs3 : i < std X1 4 := by rw [hD.1.1.2.2.2.2.2.2.2.1 4 (by decide) (by decide)]; omega
      have k0 : X1 (18 + 0) i = T1 18 i := congrFun (hD.1.2.1 18 (by omega)) i
      have k1 : X1 (18 + 1) i = T1 19 i := congrFun (hD.1.2.1 19 (by omega)) i
      have k2 : X1 (18 + 2) i = T1 20 i := congrFun (hD.1.2.1 20 (by omega)) i
      obtain ⟨w, hw, hw2⟩ := hD.1.2.2.2.2.1.2.2.2.2.2.2.2.2.2 i (by omega)
      have hRs : ressF d (recsF d (itF (ltF (nI d)) j (i + 1) (ltF (nI d) i T1))) = goesF d T := hR
      have hfT : fr T (ltF (nI d) i T1) := fr_tr hT (ltF_fr _ _ _)
      refine V_iload_n dX0_passes_162 rfl ?_
      refine V_aload_n dX0_passes_163 rfl ?_
      refine V_getf (i := 5) k_X0 dX0_passes_164 (by decide) q232 (wX_obj _) rfl ?_
      refine V_size (q := 4) (hl 4 (by decide)) dX0_passes_167 (lw_V q725 q365 q366 q100 q367) (Nat.le_of_ble_eq_true rfl) (by decide) ?_
      refine V_icmp_ge (tgt := 218) dX0_passes_170 (by decide) (fun c170 => absurd c170 (nI_ge (by omega) (by omega))) (fun _ => ?_)
      refine V_aload_n dX0_passes_173 rfl ?_
      refine V_getf (i := 5) k_X0 dX0_passes_174 (by decide) q232 (wX_obj _) rfl ?_
      refine V_iload_n dX0_passes_177 rfl ?_
      refine V_get (q := 4) (hl 4 (by decide)) rfl (by omega) dX0_passes_178 (lw_V q665 q666 q667 q100 q668) (Nat.le_of_ble_eq_true rfl) (by decide) ?_
      rw [eln_4]
      refine V_castE dX0_passes_181 q213 (.inr ⟨_, _, _, (wX_lt _ (d := i) (by omega) hs3), by decide⟩) ?_
      refine V_astore_n dX0_passes_184 rfl (Nat.le_of_ble_eq_true rfl) (Nat.le_of_ble_eq_true rfl) ?_
      refine V_aload_n dX0_passes_185 rfl ?_
      refine V_iconst dX0_passes_186 li_0 ?_
      refine Vx_ldc dX0_passes_187 (wX_lt _ (d := i) (by omega) hs3) rfl (by decide) (by decide) ?_
      rw [k0]
      refine V_iload_n dX0_passes_188 rfl ?_
      refine V_icmp_ne (tgt := 212) dX0_passes_189 (by decide) (fun c189 => ?_) (fun c189 => ?_)
      · refine V_iinc dX0_passes_212 rfl (iinc_1 _) rfl (Nat.le_of_ble_eq_true rfl) ?_
        refine V_goto (tgt := 162) dX0_passes_215 (by decide) ?_
        have e1 : ltF (nI d) i T1 = T1 := by unfold ltF; rw [if_neg c189]
        rw [e1] at hRs hfT
        exact ih (i + 1) _ T1 X1 (by omega) hD hT hX h5 hRs
      · refine V_aload_n dX0_passes_192 rfl ?_
        refine V_aload_n dX0_passes_193 rfl ?_
        refine V_iconst dX0_passes_194 li_1 ?_
        refine Vx_ldc dX0_passes_195 (wX_lt _ (d := i) (by omega) hs3) rfl (by decide) (by decide) ?_
        rw [k1, hw2]
        refine Vq_v (x_isPersonF l hD.2.1.1 (hl 0 (by decide)) _) dX0_passes_196 (lw_V q654 q656 qs5 q95 q657) hv_X0_isPerson (by decide) (wX_obj _) cl_X0 rfl rfl (Nat.le_of_ble_eq_true rfl) ?_
        rw [isPT (T := T1) b2 n2 (by omega)]
        refine V_if_eqB (tgt := 212) dX0_passes_199 (by decide) (fun c199 => ?_) (fun c199 => ?_)
        · refine V_iinc dX0_passes_212 rfl (iinc_1 _) rfl (Nat.le_of_ble_eq_true rfl) ?_
          refine V_goto (tgt := 162) dX0_passes_215 (by decide) ?_
          have e1 : ltF (nI d) i T1 = T1 := by unfold ltF; rw [if_pos c189, if_pos (by rw [hw2, m2]; exact nI_le (by omega) (by omega))]
          rw [e1] at hRs hfT
          exact ih (i + 1) _ T1 X1 (by omega) hD hT hX h5 hRs
        · refine V_aload_n dX0_passes_202 rfl ?_
          refine V_aload_n dX0_passes_203 rfl ?_
          refine V_iconst dX0_passes_204 li_1 ?_
          refine Vx_ldc dX0_passes_205 (wX_lt _ (d := i) (by omega) hs3) rfl (by decide) (by decide) ?_
          rw [k1, hw2]
          refine V_aload_n dX0_passes_206 rfl ?_
          refine V_iconst dX0_passes_207 li_2 ?_
          refine Vx_ldc dX0_passes_208 (wX_lt _ (d := i) (by omega) hs3) rfl (by decide) (by decide) ?_
          rw [k2]
          refine Vz_vV (x_cuts l w (by omega) _) dX0_passes_209 (lw_V q812 q814 qs12 q95 q815) hv_X0_cuts (by decide) (wX_obj _) cl_X0 rfl rfl (Nat.le_of_ble_eq_true rfl) (fun _ h => h.elim) (fun _ _ => xok0) (fun _ _ => xok0) ⟨Nat.le_of_eq (Nat.zero_add _), Nat.le_of_eq (Nat.zero_add _)⟩ (fun X2 h2 => ?_)
          refine V_iinc dX0_passes_212 rfl (iinc_1 _) rfl (Nat.le_of_ble_eq_true rfl) ?_
          refine V_goto (tgt := 162) dX0_passes_215 (by decide) ?_
          have e1 : ltF (nI d) i T1 = cutS w (T1 20 i) T1 := by unfold ltF; rw [if_pos c189, if_neg (by rw [hw2, m2]; exact nI_ge c199 (by omega)), hw2, vN_nI (by omega)]
          rw [e1] at hRs hfT
          subst h2
          exact ih (i + 1) _ _ _ (by omega) (RD_cut _ c199 hD) hfT (frx_tr hX (frx_of (fr_cut (fr_rf X1) _ _))) h5 hRs
  have S160 : ∀ (l2 l3 : Option Value) (T1 X1 : xSt), RD T1 X1 → fr T T1 → frx X X1 → X1 55 0 = nI d → ressF d (recsF d (letsF (nI d) T1)) = goesF d T → V l (yX0_passes.cls, cX0_passes, 4, none, [], yX0_passes.name) (rmD 18 0 0, xF0, Q, xX0) 160 [some (.ref 0), some (.int (nI d)), l2, l3] [] (wX X1) 0 0 := by
    intro l2 l3 T1 X1 hD hT hX h5 hR
    refine V_iconst dX0_passes_160 li_0 ?_
    refine V_istore_n dX0_passes_161 rfl (Nat.le_of_ble_eq_true rfl) (Nat.le_of_ble_eq_true rfl) ?_
    refine S162 (cnt X 4) 0 _ T1 X1 (Nat.zero_add _) hD hT hX h5 ?_
    have e : vN (T1 17 0) = cnt X 4 := by rw [← hD.1.2.1 17 (by omega), hX 17 (by omega)]; rfl
    rw [← e]
    exact hR
  have S92 : ∀ (j i : Nat) (l3 : Option Value) (T1 X1 : xSt), i + j = cnt X 3 → RD T1 X1 → fr T T1 → frx X X1 → X1 55 0 = nI d → ressF d (recsF d (letsF (nI d) (itF (lyF (nI d)) j i T1))) = goesF d T → V l (yX0_passes.cls, cX0_passes, 4, none, [], yX0_passes.name) (rmD 18 0 0, xF0, Q, xX0) 92 [some (.ref 0), some (.int (nI d)), some (.int (nI i)), l3] [] (wX X1) 0 0 := by
    intro j
    induction j with
    | zero =>
      intro i l3 T1 X1 hij hD hT hX h5 hR
      have hl := hD.1.1.2.1
      have e0 : cnt X1 3 = cnt X 3 := by unfold cnt; rw [hX (szr 3) (by decide)]
      have hb6 : cnt X1 3 ≤ 6 := (bd_v hD.1.1.2.2.2.2.2.2.2.2.2.2.2.1 (by decide)).2
      refine V_iload_n dX0_passes_92 rfl ?_
      refine V_aload_n dX0_passes_93 rfl ?_
      refine V_getf (i := 4) k_X0 dX0_passes_94 (by decide) q231 (wX_obj _) rfl ?_
      refine V_size (q := 3) (hl 3 (by decide)) dX0_passes_97 (lw_V q725 q365 q366 q100 q367) (Nat.le_of_ble_eq_true rfl) (by decide) ?_
      refine V_icmp_ge (tgt := 160) dX0_passes_100 (by decide) (fun _ => ?_) (fun c100 => absurd (nI_le (by omega) (by omega)) c100)
      exact S160 _ _ T1 X1 hD hT hX h5 hR
    | succ j ih =>
      intro i l3 T1 X1 hij hD hT hX h5 hR
      obtain ⟨hl, c0, d0, c1, d1, n2, b2, n5, b5, m2, m5, y0, y1⟩ := RD_x hD.1 hD.2.1
      have e0 : cnt X1 3 = cnt X 3 := by unfold cnt; rw [hX (szr 3) (by decide)]
      have hb6 : cnt X1 3 ≤ 6 := (bd_v hD.1.1.2.2.2.2.2.2.2.2.2.2.2.1 (by decide)).2
      have hs3 : i < std X1 3 := by rw [hD.1.1.2.2.2.2.2.2.2.1 3 (by decide) (by decide)]; omega
      have k0 : X1 (14 + 0) i = T1 14 i := congrFun (hD.1.2.1 14 (by omega)) i
      have k1 : X1 (14 + 1) i = T1 15 i := congrFun (hD.1.2.1 15 (by omega)) i
      have k2 : X1 (14 + 2) i = T1 16 i := congrFun (hD.1.2.1 16 (by omega)) i
      obtain ⟨w, hw, hw2⟩ := hD.1.2.2.2.2.1.2.2.2.2.2.2.2.1 i (by omega)
      have hRs : ressF d (recsF d (letsF (nI d) (itF (lyF (nI d)) j (i + 1) (lyF (nI d) i T1)))) = goesF d T := hR
      have hfT : fr T (lyF (nI d) i T1) := fr_tr hT (lyF_fr _ _ _)
      refine V_iload_n dX0_passes_92 rfl ?_
      refine V_aload_n dX0_passes_93 rfl ?_
      refine V_getf (i := 4) k_X0 dX0_passes_94 (by decide) q231 (wX_obj _) rfl ?_
      refine V_size (q := 3) (hl 3 (by decide)) dX0_passes_97 (lw_V q725 q365 q366 q100 q367) (Nat.le_of_ble_eq_true rfl) (by decide) ?_
      refine V_icmp_ge (tgt := 160) dX0_passes_100 (by decide) (fun c100 => absurd c100 (nI_ge (by omega) (by omega))) (fun _ => ?_)
      refine V_aload_n dX0_passes_103 rfl ?_
      refine V_getf (i := 4) k_X0 dX0_passes_104 (by decide) q231 (wX_obj _) rfl ?_
      refine V_iload_n dX0_passes_107 rfl ?_
      refine V_get (q := 3) (hl 3 (by decide)) rfl (by omega) dX0_passes_108 (lw_V q665 q666 q667 q100 q668) (Nat.le_of_ble_eq_true rfl) (by decide) ?_
      rw [eln_3]
      refine V_castE dX0_passes_111 q213 (.inr ⟨_, _, _, (wX_ly _ (d := i) (by omega) hs3), by decide⟩) ?_
      refine V_astore_n dX0_passes_114 rfl (Nat.le_of_ble_eq_true rfl) (Nat.le_of_ble_eq_true rfl) ?_
      refine V_aload_n dX0_passes_115 rfl ?_
      refine V_iconst dX0_passes_116 li_0 ?_
      refine Vx_ldc dX0_passes_117 (wX_ly _ (d := i) (by omega) hs3) rfl (by decide) (by decide) ?_
      rw [k0]
      refine V_iload_n dX0_passes_118 rfl ?_
      refine V_icmp_ne (tgt := 154) dX0_passes_119 (by decide) (fun c119 => ?_) (fun c119 => ?_)
      · refine V_iinc dX0_passes_154 rfl (iinc_1 _) rfl (Nat.le_of_ble_eq_true rfl) ?_
        refine V_goto (tgt := 92) dX0_passes_157 (by decide) ?_
        have e1 : lyF (nI d) i T1 = T1 := by unfold lyF; rw [if_neg c119]
        rw [e1] at hRs hfT
        exact ih (i + 1) _ T1 X1 (by omega) hD hT hX h5 hRs
      · refine V_aload_n dX0_passes_122 rfl ?_
        refine V_aload_n dX0_passes_123 rfl ?_
        refine V_iconst dX0_passes_124 li_1 ?_
        refine Vx_ldc dX0_passes_125 (wX_ly _ (d := i) (by omega) hs3) rfl (by decide) (by decide) ?_
        rw [k1, hw2]
        refine Vq_v (x_isPersonF l hD.2.1.1 (hl 0 (by decide)) _) dX0_passes_126 (lw_V q654 q656 qs5 q95 q657) hv_X0_isPerson (by decide) (wX_obj _) cl_X0 rfl rfl (Nat.le_of_ble_eq_true rfl) ?_
        rw [isPT (T := T1) b2 n2 (by omega)]
        refine V_if_eqB (tgt := 154) dX0_passes_129 (by decide) (fun c129 => ?_) (fun c129 => ?_)
        · refine V_iinc dX0_passes_154 rfl (iinc_1 _) rfl (Nat.le_of_ble_eq_true rfl) ?_
          refine V_goto (tgt := 92) dX0_passes_157 (by decide) ?_
          have e1 : lyF (nI d) i T1 = T1 := by unfold lyF; rw [if_pos c119, if_pos (by rw [hw2, m2]; exact nI_le (by omega) (by omega))]
          rw [e1] at hRs hfT
          exact ih (i + 1) _ T1 X1 (by omega) hD hT hX h5 hRs
        · refine V_aload_n dX0_passes_132 rfl ?_
          refine V_getf (i := 13) k_X0 dX0_passes_133 (by decide) q240 (wX_obj _) rfl ?_
          rw [hD.1.2.2.1.2.2.2.1]
          refine V_iload_n dX0_passes_136 rfl ?_
          refine Vs_callIF (s_isIn l _ _) dX0_passes_137 (lw_S q818 q819 q95 q820) hs_X0_isIn (by decide) rfl (Nat.le_of_ble_eq_true rfl) ?_
          refine V_if_neB (tgt := 154) dX0_passes_140 (by decide) (fun c140 => ?_) (fun c140 => ?_)
          · refine V_iinc dX0_passes_154 rfl (iinc_1 _) rfl (Nat.le_of_ble_eq_true rfl) ?_
            refine V_goto (tgt := 92) dX0_passes_157 (by decide) ?_
            have e1 : lyF (nI d) i T1 = T1 := by unfold lyF; rw [if_pos c119, if_neg (by rw [hw2, m2]; exact nI_ge c129 (by omega)), if_pos c140]
            rw [e1] at hRs hfT
            exact ih (i + 1) _ T1 X1 (by omega) hD hT hX h5 hRs
          · refine V_aload_n dX0_passes_143 rfl ?_
            refine V_aload_n dX0_passes_144 rfl ?_
            refine V_iconst dX0_passes_145 li_1 ?_
            refine Vx_ldc dX0_passes_146 (wX_ly _ (d := i) (by omega) hs3) rfl (by decide) (by decide) ?_
            rw [k1, hw2]
            refine V_aload_n dX0_passes_147 rfl ?_
            refine V_iconst dX0_passes_148 li_2 ?_
            refine Vx_ldc dX0_passes_149 (wX_ly _ (d := i) (by omega) hs3) rfl (by decide) (by decide) ?_
            rw [k2]
            refine V_ineg dX0_passes_150 ?_
            refine Vz_vV (x_cuts l w (by omega) _) dX0_passes_151 (lw_V q812 q814 qs12 q95 q815) hv_X0_cuts (by decide) (wX_obj _) cl_X0 rfl rfl (Nat.le_of_ble_eq_true rfl) (fun _ h => h.elim) (fun _ _ => xok0) (fun _ _ => xok0) ⟨Nat.le_of_eq (Nat.zero_add _), Nat.le_of_eq (Nat.zero_add _)⟩ (fun X2 h2 => ?_)
            refine V_iinc dX0_passes_154 rfl (iinc_1 _) rfl (Nat.le_of_ble_eq_true rfl) ?_
            refine V_goto (tgt := 92) dX0_passes_157 (by decide) ?_
            have e1 : lyF (nI d) i T1 = cutS w (-(T1 16 i)) T1 := by unfold lyF; rw [if_pos c119, if_neg (by rw [hw2, m2]; exact nI_ge c129 (by omega)), if_neg c140, hw2, vN_nI (by omega)]
            rw [e1] at hRs hfT
            subst h2
            exact ih (i + 1) _ _ _ (by omega) (RD_cut _ c129 hD) hfT (frx_tr hX (frx_of (fr_cut (fr_rf X1) _ _))) h5 hRs
  have S85 : ∀ (l2 l3 : Option Value) (T1 X1 : xSt), RD T1 X1 → fr T T1 → frx X X1 → X1 55 0 = nI d → ressF d (recsF d (letsF (nI d) (liesF (nI d) (breaksF (nI d) T1)))) = goesF d T → V l (yX0_passes.cls, cX0_passes, 4, none, [], yX0_passes.name) (rmD 18 0 0, xF0, Q, xX0) 85 [some (.ref 0), some (.int (nI d)), l2, l3] [] (wX X1) 0 0 := by
    intro l2 l3 T1 X1 hD hT hX h5 hR
    refine V_aload_n dX0_passes_85 rfl ?_
    refine V_iload_n dX0_passes_86 rfl ?_
    refine Vz_vV (x_breaks l hD (XO_21 hD.1).1 hd) dX0_passes_87 (lw_V q825 q827 qs14 q95 q828) hv_X0_breaks (by decide) (wX_obj _) cl_X0 rfl rfl (Nat.le_of_ble_eq_true rfl) (fun _ h => h.elim) (fun _ _ => xok0) (fun _ _ => xok0) ⟨Nat.le_of_eq (Nat.zero_add _), Nat.le_of_eq (Nat.zero_add _)⟩ (fun X2 h2 => ?_)
    refine V_iconst dX0_passes_90 li_0 ?_
    refine V_istore_n dX0_passes_91 rfl (Nat.le_of_ble_eq_true rfl) (Nat.le_of_ble_eq_true rfl) ?_
    have hx2 := frx_tr hX (frx_of h2.2)
    refine S92 (cnt X 3) 0 _ (breaksF (nI d) T1) X2 (Nat.zero_add _) h2.1 (fr_tr hT (breaksF_fr _ _)) hx2 ((congrFun (h2.2 55 (by omega)) 0).trans h5) ?_
    have e : vN (breaksF (nI d) T1 13 0) = cnt X 3 := by rw [← h2.1.1.2.1 13 (by omega), hx2 13 (by omega)]; rfl
    rw [← e]
    exact hR
  have S69 : ∀ (l2 l3 : Option Value) (T1 X1 : xSt), RD T1 X1 → fr T T1 → frx X X1 → X1 55 0 = nI d → ressF d (recsF d (letsF (nI d) (liesF (nI d) (breaksF (nI d) (if X 45 0 = nI d then kqF (vN (X 45 1)) T1 else T1))))) = goesF d T → (X 45 0 = nI d → bd (X 45 1) 9) → V l (yX0_passes.cls, cX0_passes, 4, none, [], yX0_passes.name) (rmD 18 0 0, xF0, Q, xX0) 69 [some (.ref 0), some (.int (nI d)), l2, l3] [] (wX X1) 0 0 := by
    intro l2 l3 T1 X1 hD hT hX h5 hR hb
    have e45 : X1 45 = X 45 := hX 45 (by omega)
    refine V_aload_n dX0_passes_69 rfl ?_
    refine V_getf (i := 14) k_X0 dX0_passes_70 (by decide) q241 (wX_obj _) rfl ?_
    rw [e45]
    refine V_iload_n dX0_passes_73 rfl ?_
    refine V_icmp_ne (tgt := 85) dX0_passes_74 (by decide) (fun c74 => ?_) (fun c74 => ?_)
    · rw [if_neg c74] at hR
      exact S85 _ _ T1 X1 hD hT hX h5 hR
    · refine V_aload_n dX0_passes_77 rfl ?_
      refine V_aload_n dX0_passes_78 rfl ?_
      refine V_getf (i := 15) k_X0 dX0_passes_79 (by decide) q242 (wX_obj _) rfl ?_
      rw [e45]
      rw [(bd_v (hb c74) (by decide)).1]
      refine Vz_vV (x_keeps l hD (vN (X 45 1)) (by have := (bd_v (hb c74) (by decide)).2; omega)) dX0_passes_82 (lw_V q821 q823 qs13 q95 q824) hv_X0_keeps (by decide) (wX_obj _) cl_X0 rfl rfl (Nat.le_of_ble_eq_true rfl) (fun _ h => h.elim) (fun _ _ => xok0) (fun _ _ => xok0) ⟨Nat.le_of_eq (Nat.zero_add _), Nat.le_of_eq (Nat.zero_add _)⟩ (fun X2 h2 => ?_)
      rw [if_pos c74] at hR
      exact S85 _ _ _ X2 h2.1 (fr_tr hT (kqF_fr _ _)) (frx_tr hX (frx_of h2.2)) ((congrFun (h2.2 55 (by omega)) 0).trans h5) hR
  have S7 : ∀ (j i : Nat) (l3 : Option Value) (T1 X1 : xSt), i + j = cnt X 2 → RD T1 X1 → fr T T1 → frx X X1 → X1 55 0 = nI d → itF (kpF (nI d)) j i T1 = itF (kpF (nI d)) (cnt X 2) 0 (makesF (nI d) T) → V l (yX0_passes.cls, cX0_passes, 4, none, [], yX0_passes.name) (rmD 18 0 0, xF0, Q, xX0) 7 [some (.ref 0), some (.int (nI d)), some (.int (nI i)), l3] [] (wX X1) 0 0 := by
    intro j
    induction j with
    | zero =>
      intro i l3 T1 X1 hij hD hT hX h5 hR
      have hl := hD.1.1.2.1
      have e0 : cnt X1 2 = cnt X 2 := by unfold cnt; rw [hX (szr 2) (by decide)]
      have h8 : cnt X1 2 ≤ 8 := hD.1.1.1.2
      have hR : T1 = itF (kpF (nI d)) (cnt X 2) 0 (makesF (nI d) T) := hR
      have hMT : fr T (makesF (nI d) T) := makesF_fr _ _
      have hgo : ressF d (recsF d (letsF (nI d) (liesF (nI d) (breaksF (nI d) (keepsF (nI d) (makesF (nI d) T)))))) = goesF d T := rfl
      have hQ2 : (if X 45 0 = nI d then kqF (vN (X 45 1)) T1 else T1) = keepsF (nI d) (makesF (nI d) T) ∧ (X 45 0 = nI d → bd (X 45 1) 9) := by
        unfold keepsF
        rw [hMT 22 (by omega)]
        rcases hD0.1.2.2.1.2.1 with ⟨o1, o2⟩ | ⟨e, o0, o1, o2, o3, o4, o5, o6⟩
        · have hne : ¬ X 45 0 = nI d := by rw [o1]; intro z; have h := nI_pos' (n := d) (by omega); rw [← z] at h; exact absurd h (by decide +kernel)
          rw [if_neg hne, o2]
          exact ⟨hR, fun z => absurd z hne⟩
        · have h8 : cnt X 2 ≤ 8 := hD0.1.1.1.2
          rw [o2, vN_nI (by omega), itF_add, ← hR, Nat.zero_add]
          show _ = kpF (nI d) (cnt X 2) T1 ∧ _
          rw [kpF_k, hT 23 (by omega), hT 25 (by omega), hT 24 (by omega), o3, o6, o4, o1, if_neg (isI_0 (by omega))]
          exact ⟨rfl, fun _ => o5⟩
      refine V_iload_n dX0_passes_7 rfl ?_
      refine V_aload_n dX0_passes_8 rfl ?_
      refine V_getf (i := 3) k_X0 dX0_passes_9 (by decide) q230 (wX_obj _) rfl ?_
      refine V_size (q := 2) (hl 2 (by decide)) dX0_passes_12 (lw_V q725 q365 q366 q100 q367) (Nat.le_of_ble_eq_true rfl) (by decide) ?_
      refine V_icmp_ge (tgt := 69) dX0_passes_15 (by decide) (fun _ => ?_) (fun c15 => absurd (nI_le (by omega) (by omega)) c15)
      exact S69 _ _ T1 X1 hD hT hX h5 (by rw [hQ2.1]; exact hgo) hQ2.2
    | succ j ih =>
      intro i l3 T1 X1 hij hD hT hX h5 hR
      have hl := hD.1.1.2.1
      have e0 : cnt X1 2 = cnt X 2 := by unfold cnt; rw [hX (szr 2) (by decide)]
      have h8 : cnt X1 2 ≤ 8 := hD.1.1.1.2
      obtain ⟨kf, f1, f2, f3⟩ := ke_row hD.1 (show i < cnt X1 2 by omega)
      obtain ⟨g1, g2, g3⟩ := hD.1.2.2.1.1 i (by omega)
      obtain ⟨p, hp, hp2⟩ := g3
      have hRs : itF (kpF (nI d)) j (i + 1) (kpF (nI d) i T1) = itF (kpF (nI d)) (cnt X 2) 0 (makesF (nI d) T) := hR
      have hfT : fr T (kpF (nI d) i T1) := fr_tr hT (kpF_fr _ _ _)
      refine V_iload_n dX0_passes_7 rfl ?_
      refine V_aload_n dX0_passes_8 rfl ?_
      refine V_getf (i := 3) k_X0 dX0_passes_9 (by decide) q230 (wX_obj _) rfl ?_
      refine V_size (q := 2) (hl 2 (by decide)) dX0_passes_12 (lw_V q725 q365 q366 q100 q367) (Nat.le_of_ble_eq_true rfl) (by decide) ?_
      refine V_icmp_ge (tgt := 69) dX0_passes_15 (by decide) (fun c15 => absurd c15 (nI_ge (by omega) (by omega))) (fun _ => ?_)
      refine V_aload_n dX0_passes_18 rfl ?_
      refine V_getf (i := 3) k_X0 dX0_passes_19 (by decide) q230 (wX_obj _) rfl ?_
      refine V_iload_n dX0_passes_22 rfl ?_
      refine V_get (q := 2) (hl 2 (by decide)) rfl (by omega) dX0_passes_23 (lw_V q665 q666 q667 q100 q668) (Nat.le_of_ble_eq_true rfl) (by decide) ?_
      refine V_castE dX0_passes_26 q213 (.inr ⟨_, _, _, f1, by decide⟩) ?_
      refine V_iconst dX0_passes_29 li_0 ?_
      refine Vx_ldc dX0_passes_30 f1 rfl (by decide) (by decide) ?_
      rw [f2, ← g1]
      refine V_iload_n dX0_passes_31 rfl ?_
      refine V_icmp_ne (tgt := 63) dX0_passes_32 (by decide) (fun c32 => ?_) (fun c32 => ?_)
      · refine V_iinc dX0_passes_63 rfl (iinc_1 _) rfl (Nat.le_of_ble_eq_true rfl) ?_
        refine V_goto (tgt := 7) dX0_passes_66 (by decide) ?_
        have e1 : kpF (nI d) i T1 = T1 := by rw [kpF_k]; rw [if_neg c32]
        rw [e1] at hRs hfT
        exact ih (i + 1) _ T1 X1 (by omega) hD hT hX h5 hRs
      · refine V_aload_n dX0_passes_35 rfl ?_
        refine V_getf (i := 12) k_X0 dX0_passes_36 (by decide) q239 (wX_obj _) rfl ?_
        rw [hD.1.2.2.1.2.2.1]
        refine V_iload_n dX0_passes_39 rfl ?_
        refine Vs_callIF (s_isIn l _ _) dX0_passes_40 (lw_S q818 q819 q95 q820) hs_X0_isIn (by decide) rfl (Nat.le_of_ble_eq_true rfl) ?_
        refine V_if_neB (tgt := 63) dX0_passes_43 (by decide) (fun c43 => ?_) (fun c43 => ?_)
        · refine V_iinc dX0_passes_63 rfl (iinc_1 _) rfl (Nat.le_of_ble_eq_true rfl) ?_
          refine V_goto (tgt := 7) dX0_passes_66 (by decide) ?_
          have e1 : kpF (nI d) i T1 = T1 := by rw [kpF_k]; rw [if_pos c32, if_pos c43]
          rw [e1] at hRs hfT
          exact ih (i + 1) _ T1 X1 (by omega) hD hT hX h5 hRs
        · refine V_aload_n dX0_passes_46 rfl ?_
          refine V_aload_n dX0_passes_47 rfl ?_
          refine V_getf (i := 3) k_X0 dX0_passes_48 (by decide) q230 (wX_obj _) rfl ?_
          refine V_iload_n dX0_passes_51 rfl ?_
          refine V_get (q := 2) (hl 2 (by decide)) rfl (by omega) dX0_passes_52 (lw_V q665 q666 q667 q100 q668) (Nat.le_of_ble_eq_true rfl) (by decide) ?_
          refine V_castE dX0_passes_55 q213 (.inr ⟨_, _, _, f1, by decide⟩) ?_
          refine V_iconst dX0_passes_58 li_1 ?_
          refine Vx_ldc dX0_passes_59 f1 rfl (by decide) (by decide) ?_
          rw [f3, hp2]
          refine Vz_vV (x_keeps l hD p (by omega)) dX0_passes_60 (lw_V q821 q823 qs13 q95 q824) hv_X0_keeps (by decide) (wX_obj _) cl_X0 rfl rfl (Nat.le_of_ble_eq_true rfl) (fun _ h => h.elim) (fun _ _ => xok0) (fun _ _ => xok0) ⟨Nat.le_of_eq (Nat.zero_add _), Nat.le_of_eq (Nat.zero_add _)⟩ (fun X2 h2 => ?_)
          refine V_iinc dX0_passes_63 rfl (iinc_1 _) rfl (Nat.le_of_ble_eq_true rfl) ?_
          refine V_goto (tgt := 7) dX0_passes_66 (by decide) ?_
          have e1 : kpF (nI d) i T1 = kqF p T1 := by rw [kpF_k, if_pos c32, if_neg c43, g2, hp2, vN_nI (by omega)]
          rw [e1] at hRs hfT
          exact ih (i + 1) _ _ X2 (by omega) h2.1 hfT (frx_tr hX (frx_of h2.2)) ((congrFun (h2.2 55 (by omega)) 0).trans h5) hRs
  refine V_aload_n dX0_passes_0 rfl ?_
  refine V_iload_n dX0_passes_1 rfl ?_
  refine Vz_vV (x_makes l hD0 hd) dX0_passes_2 (lw_V q797 q799 qs11 q95 q800) hv_X0_makes (by decide) (wX_obj _) cl_X0 rfl rfl (Nat.le_of_ble_eq_true rfl) (fun _ h => h.elim) (fun _ _ => xok0) (fun _ _ => xok0) ⟨Nat.le_of_eq (Nat.zero_add _), Nat.le_of_eq (Nat.zero_add _)⟩ (fun X2 h2 => ?_)
  refine V_iconst dX0_passes_5 li_0 ?_
  refine V_istore_n dX0_passes_6 rfl (Nat.le_of_ble_eq_true rfl) (Nat.le_of_ble_eq_true rfl) ?_
  exact S7 (cnt X 2) 0 _ _ X2 (Nat.zero_add _) h2.1 (makesF_fr _ _) (frx_of h2.2) ((congrFun (h2.2 55 (by omega)) 0).trans h55) rfl
