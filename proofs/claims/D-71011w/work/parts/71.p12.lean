/-! PromiseTailor's side: years -/
set_option maxRecDepth 100000
/-- what a year leaves alone -/
def YV (X Y : xSt) : Prop := (∀ r, (r < 2 ∨ (9 < r ∧ r < 25) ∨ (32 < r ∧ r < 45 ∧ r ≠ 38)) → Y r = X r) ∧ Y 53 0 = nI 0 ∧ AS Y ∧ (X 47 0 = nI 1 → Y 47 0 = nI 1) ∧ (X 47 1 = nI 1 → Y 47 1 = nI 1)
theorem CB_2 {R X : xSt} (h : YB R X) (hc : cnt X 2 ≤ 8) : CB X := by
  obtain ⟨S, Y, a, b, c⟩ := h
  refine ⟨fun q hq => ?_, hc⟩
  by_cases z : q = 2
  · rw [z]; omega
  · have e : X (szr q) = Y (szr q) := c.1 _ (by match q, hq, z with | 0, _, _ => decide | 1, _, _ => decide | 2, _, z => exact absurd rfl z | 3, _, _ => decide | 4, _, _ => decide | 5, _, _ => decide) (by have := @szr_b q; omega) (by have := @szr_b q; omega) (by have := @szr_b q; omega) (by have := @szr_b q; omega) (by have := @szr_b q; omega) (by have := @szr_b q; omega)
    unfold cnt
    rw [e]
    exact a.1.1.1 q hq
theorem LQ1_yo {X Y : xSt} (h : LQ X 1) (g : yo X Y) : LQ Y 1 := LQ_ofp (g.1 _ (by decide) (by decide) (by decide) (by decide) (by decide) (by decide) (by decide)) (g.2.2.2.1 1 (by decide)) h

theorem fF_YF {q : Nat} {X Y : xSt} (h : YF q X Y) : ∀ n, fF Y n → fF X n := by
  intro n hn
  unfold fF at *
  rcases hn with ⟨a, b⟩ | ⟨a, b⟩ | a
  · exact .inl ⟨fun z => a (h.2.2.2.2.1.1 z), b⟩
  · exact .inr (.inl ⟨fun z => a (h.2.2.2.2.1.2 z), b⟩)
  · exact .inr (.inr a)
set_option maxHeartbeats 4000000 in
theorem x_yearOf (l : Launch) {R X : xSt} (h : PT R X) (h53 : X 53 0 = nI 0) (hAS : AS X) {seed : Int32} {n : Nat} {what : Int32} (hn8 : n ≤ 8) : Cz l yX0_yearOf (wsW_ yX0_yearOf cX0_yearOf 9 (some .int) [(56, 154, 195, 0), (195, 197, 195, 0)]) 22 (rc X + 1) (rs X + 10) (fG X) [.ref 0, .int seed, .int (nI n), .int what] X (fun r X' => ∃ x, r = some (.int x) ∧ x = (yearF seed n what R).1 ∧ PT R X' ∧ YV X X') := by
  refine Cz_startW (ls := [some (.ref 0), some (.int seed), some (.int (nI n)), some (.int what), none, none, none, none, none]) (by decide) rfl (Nat.le_of_ble_eq_true rfl) fG_lo ?_
  intro Q hQ
  have hl := h.1.1.2.1
  have p5 := bd_v h.1.2.2.2.2.1.2.1 (by decide)
  have q8 := bd_v h.1.1.2.2.2.2.2.2.2.2.2.2.1 (by decide)
  have hq : vN (X 10 0) = cnt X 2 := rfl
  generalize hqq : cnt X 2 = q at hq
  rw [hq] at q8
  have hst : std X 2 = q := h.2.1.2.2.2.2.2.elim (fun z => z.2.trans hqq) (fun z => absurd (h53.symm.trans z) (by decide +kernel))
  have hg0 : 0 < q → X 50 2 ≠ 0 := fun z e => by have := (hl 2 (by decide)).2.2.2 e; omega
  generalize hpr : vN (R 5 0) = pr at p5
  have O : ∀ (res : Int32), res = (yearF seed n what R).1 → ∀ (j i : Nat) (l6 : Value) (X1 : xSt), i + j = q → (∀ a, l6 ≠ .ref a) → YB R X1 → YF q X X1 → YA i q X1 → X1 10 0 = nI q → X1 53 0 = nI 0 → V l (yX0_yearOf.cls, cX0_yearOf, 9, (some .int), [(56, 154, 195, 0), (195, 197, 195, 0)], yX0_yearOf.name) (rmD 22 (rc X + 1) (rs X + 10), (fG X), Q, xX0) 192 [some (.ref 0), some (.int seed), some (.int (nI n)), some (.int what), some (.int (nI q)), some (.int res), some l6, none, none] [] (wX X1) 0 0 := by
    intro res hres j
    induction j with
    | zero =>
      intro i l6 X1 hij h6 hB hF hA h10 hm
      obtain ⟨c2, L2⟩ := LQ_2 h10 (by omega) (fun z => Nat.eq_zero_of_not_pos (fun y => hF.2.2.2.2.2 y z))
      have e10 : X1 10 = X 10 := funext (fun u => if y : u = 0 then by rw [y, h10, q8.1] else hF.2.1 u y)
      have hkd : ∀ u, kdX X1 u = kdX X u := fun u => by unfold kdX; rw [hm, h53, if_neg (by decide +kernel), if_neg (by decide +kernel), hF.1 11 (by omega)]
      have hko : ∀ u, koX X1 u = koX X u := fun u => by unfold koX; rw [hm, h53, if_neg (by decide +kernel), if_neg (by decide +kernel), hF.1 12 (by omega)]
      have hKD : KD R X1 := ⟨fun u hu => by rw [hkd, hko]; exact h.2.1.1 u (by rw [hqq]; omega), by rw [e10]; exact h.2.1.2.1, h.2.1.2.2.1, h.2.1.2.2.2.1, h.2.1.2.2.2.2.1, .inl ⟨hm, by rw [c2]; exact hF.2.2.2.1⟩⟩
      have hdf : df X1 := hF.2.2.1
      have hX : XT R X1 := YB_XT hB (AP_rf R) L2 (by rw [h10]; exact bd_n q8.2) h.1.2.2.2.2.1 (XK_df hKD hdf) (XO_df hKD hdf)
      refine V_iload dX0_yearOf_192 rfl ?_
      exact V_ireturn dX0_yearOf_194 rfl (hQ _ _ ⟨_, rfl, ⟨hres, ⟨hX, hKD, hdf⟩, fun r hr => (show r = 10 ∨ r ≠ 10 by omega).elim (fun e => by rw [e]; exact e10) (fun e => hF.1 r (by omega)), hm, fun u hu => (show u < i ∨ q ≤ u by omega).elim (fun y => .inr ((hA u hu).1 y)) (fun y => (hA u hu).2.2 y), hF.2.2.2.2.1.1, hF.2.2.2.2.1.2⟩⟩)
    | succ j ih =>
      intro i l6 X1 hij h6 hB hF hA h10 hm
      obtain ⟨c2, L2⟩ := LQ_2 h10 (by omega) (fun z => Nat.eq_zero_of_not_pos (fun y => hF.2.2.2.2.2 y z))
      have hcb := CB_2 hB (by omega)
      refine Vx_old (x := i) (by omega) ((hA i (by omega)).2.1 (Nat.le_refl _) (by omega)) hcb.2 hcb.1 (wX_1472 X1 (by omega)) (.inr (.inr (by omega))) (nel_c (ne_r (by omega)) (nel_c ne_i (nel_c ne_i (nel_c ne_i (nel_c ne_i (nel_c ne_i (nel_c (h6 _) (nel_n (nel_n nel_0))))))))) nes_0 ?_
      have o1 : yo X1 (mwr X1 52 i (nI 1)) := yo_wr (by omega)
      exact ih (i + 1) l6 _ (by omega) h6 (YB_o hB o1) (YF_o hF o1) (YA_s hA (by omega)) h10 hm
  have L164 : ∀ (res : Int32), res = (yearF seed n what R).1 → ∀ (j i : Nat) (X1 : xSt), i + j = q → YB R X1 → YF q X X1 → YA 0 q X1 → X1 10 0 = nI i → X1 53 0 = nI 0 → V l (yX0_yearOf.cls, cX0_yearOf, 9, (some .int), [(56, 154, 195, 0), (195, 197, 195, 0)], yX0_yearOf.name) (rmD 22 (rc X + 1) (rs X + 10), (fG X), Q, xX0) 164 [some (.ref 0), some (.int seed), some (.int (nI n)), some (.int what), some (.int (nI q)), some (.int res), some (.int (nI i)), none, none] [] (wX X1) 0 0 := by
    intro res hres j
    induction j with
    | zero =>
      intro i X1 hij hB hF hA h10 hm
      refine V_iload dX0_yearOf_164 rfl ?_
      refine V_iload dX0_yearOf_166 rfl ?_
      refine V_icmp_geN (tgt := 192) dX0_yearOf_168 (by decide) (by omega) (by omega) (fun c168 => ?_) (fun c168 => ?_)
      · exact O res hres q 0 _ X1 (Nat.zero_add _) (fun a => ne_i) hB hF hA (by rw [h10, show i = q by omega]) hm
      · exact absurd c168 (by omega)
    | succ j ih =>
      intro i X1 hij hB hF hA h10 hm
      obtain ⟨c2, L2⟩ := LQ_2 h10 (by omega) (fun z => absurd (hF.2.2.2.2.2 (by omega)) (fun y => y z))
      have hcb := CB_2 hB (by omega)
      have hs : i < std X1 2 := by rw [hF.2.2.2.1]; omega
      refine V_iload dX0_yearOf_164 rfl ?_
      refine V_iload dX0_yearOf_166 rfl ?_
      refine V_icmp_geN (tgt := 192) dX0_yearOf_168 (by decide) (by omega) (by omega) (fun c168 => ?_) (fun c168 => ?_)
      · exact absurd c168 (by omega)
      · refine V_aload_n dX0_yearOf_171 rfl ?_
        refine V_getf (i := 3) k_X0 dX0_yearOf_172 (by decide) q230 (wX_obj _) rfl ?_
        refine V_aload_n dX0_yearOf_175 rfl ?_
        refine V_getf (i := 21) k_X0 dX0_yearOf_176 (by decide) q248 (wX_obj _) rfl ?_
        refine V_iload dX0_yearOf_179 rfl ?_
        refine Vx_ld_aside dX0_yearOf_181 rfl (by omega) ((hA i (by omega)).2.1 (Nat.zero_le _) (by omega)) ?_
        refine V_add (k' := 0) (n' := 0) (q := 2) (v := 1216 + i) (C := "[I") L2 (by omega) (by rw [c2]; exact (if_neg (fun z => absurd (hm.symm.trans z.2) (by decide +kernel))).trans (by omega)) (.inr ⟨_, _, _, wX_ke X1 (by omega) hs, by decide⟩) (nw q1721 rfl) (by decide) (fun z0 m d hd => wX_nr hcb.2 (tgt_da hcb (by decide) z0) hd) dX0_yearOf_182 (lw_V q726 q591 q592 q100 q593) (fun _ => .inr (.inl rfl)) (fun _ => (nel_c (ne_r (Nat.ne_of_beq_eq_false rfl)) (nel_c ne_i (nel_c ne_i (nel_c ne_i (nel_c ne_i (nel_c ne_i (nel_c ne_i (nel_n (nel_n nel_0)))))))))) (fun _ => nes_0) (by decide) (Nat.le_of_ble_eq_true rfl) ⟨fun z => absurd z (hF.2.2.2.2.2 (by omega)), Nat.le_refl _, Nat.le_refl _⟩ ?_
        refine V_pop dX0_yearOf_185 rfl ?_
        refine V_iinc dX0_yearOf_186 rfl (iinc_1 _) rfl (Nat.le_of_ble_eq_true rfl) ?_
        refine V_goto (tgt := 164) dX0_yearOf_189 (by decide) ?_
        have o1 := yo_add X1
        exact ih (i + 1) (addX 2 X1) (by omega) (YB_o hB o1) (YF_o hF o1) (YA_c hA rfl) (by rw [show addX 2 X1 10 0 = nI (cnt X1 2 + 1) from addX_sz 2 X1, c2]) hm
  have J154 : ∀ (res : Int32), res = (yearF seed n what R).1 → ∀ (X1 : xSt), YB R X1 → YF q X X1 → YA 0 q X1 → LQ X1 2 → V l (yX0_yearOf.cls, cX0_yearOf, 9, (some .int), [(56, 154, 195, 0), (195, 197, 195, 0)], yX0_yearOf.name) (rmD 22 (rc X + 1) (rs X + 10), (fG X), Q, xX0) 154 [some (.ref 0), some (.int seed), some (.int (nI n)), some (.int what), some (.int (nI q)), some (.int res), none, none, none] [] (wX X1) 0 0 := by
    intro res hres X1 hB hF hA hL2
    refine V_aload_n dX0_yearOf_154 rfl ?_
    refine V_getf (i := 3) k_X0 dX0_yearOf_155 (by decide) q230 (wX_obj _) rfl ?_
    refine V_clear (q := 2) (hL2) dX0_yearOf_158 (lw_V q949 q357 q358 q100 q359) (Nat.le_of_ble_eq_true rfl) (by decide) ?_
    refine V_iconst dX0_yearOf_161 li_0 ?_
    refine V_istore dX0_yearOf_162 rfl (Nat.le_of_ble_eq_true rfl) (Nat.le_of_ble_eq_true rfl) ?_
    have o1 : yo X1 (mwr (clX 2 X1) 53 0 (nI 0)) := yo_tr (yo_cl X1) (yo_wr (by omega))
    rw [← wX_mode (X := clX 2 X1) (v := nI 0) (cnt_of (mwr_s _ _ _ _) (by decide))]
    exact L164 res hres q 0 _ (Nat.zero_add _) (YB_o hB o1) (YF_o hF o1) (YA_c hA rfl) ((mwr_r _ _ _ _ (by decide)).trans (mwr_s _ _ _ _)) (mwr_s _ _ _ _)
  have J131 : ∀ (kn : Nat) (l5 : Option Value) (T1 X1 : xSt), kn ≤ 8 → yearF seed n what R = yearR seed kn what R → runsF T1 = yrR seed kn R → AP R T1 → PV T1 → T1 21 0 = R 21 0 → T1 25 0 = nI 0 → T1 26 0 = nI 0 → T1 22 0 = nI kn → yrow kn T1 X1 → YB R X1 → YF q X X1 → YA 0 q X1 → X1 10 0 = nI kn → (X1 50 2 = 0 → kn = 0) → X1 53 0 = nI 1 → (∀ v, l5 = some v → ∀ a, v ≠ .ref a) → V l (yX0_yearOf.cls, cX0_yearOf, 9, (some .int), [(56, 154, 195, 0), (195, 197, 195, 0)], yX0_yearOf.name) (rmD 22 (rc X + 1) (rs X + 10), (fG X), Q, xX0) 131 [some (.ref 0), some (.int seed), some (.int (nI n)), some (.int what), some (.int (nI q)), l5, none, none, none] [] (wX X1) (rc X1) (rs X1) := by
    intro kn l5 T1 X1 hk8 hE hR hAP hP h21 h25 h26 h22 hrow hB hF hA h10 h50 hm hl5
    obtain ⟨c2, L2⟩ := LQ_2 h10 (by omega) h50
    have hX : XT T1 X1 := YB_XT hB hAP L2 (by rw [h10]; exact bd_n hk8) hP (XK_y hrow h10 c2 h22 hm hF.2.2.1.1 (hF.2.2.1.2.2.1.trans h25.symm) (hF.2.2.1.2.2.2.trans h26.symm)) (.inl ⟨hF.2.2.1.2.1, by rw [h21, hAP.2.2.1]; exact h.2.1.2.2.2.2.1⟩)
    refine V_aload_n dX0_yearOf_131 rfl ?_
    refine Vz_vV (k' := 0) (n' := 0) (x_find l hX) dX0_yearOf_132 (lw_V q789 q791 qs9 q95 q792) hv_X0_find (by decide) (wX_obj _) cl_X0 rfl rfl (Nat.le_of_ble_eq_true rfl) (fun m z => .inl (fF_YF hF m z)) (okl_c (ok_r (fF_ok (.inl (Nat.le_of_ble_eq_true rfl)))) (okl_c ok_i (okl_c ok_i (okl_c ok_i (okl_c ok_i (fun v hv => by cases hv with | head => exact fun a e => absurd e (hl5 v rfl a) | tail _ y => exact (okl_n (okl_n (okl_n okl_0))) v y)))))) oks_0 ⟨Nat.le_refl _, Nat.le_refl _⟩ (fun X2 h2 => ?_)
    rw [hR] at h2
    have hQ2 : RQ (yrR seed kn R) X2 := by rw [← hR] at h2 ⊢; exact RQ_of h2.1 h2.2.1
    refine V_iload_n dX0_yearOf_135 rfl ?_
    refine V_if_ne (tgt := 146) dX0_yearOf_136 (by decide) (fun c136 => ?_) (fun c136 => ?_)
    · refine V_aload_n dX0_yearOf_146 rfl ?_
      refine V_bipush dX0_yearOf_147 lb_23 ?_
      refine Vq_v (x_fitsIn l hQ2 (show 23 < 24 by decide)) dX0_yearOf_149 (lw_V q893 q895 qs22 q95 q896) hv_X0_fitsIn (by decide) (wX_obj _) cl_X0 rfl rfl (Nat.le_of_ble_eq_true rfl) ?_
      refine V_istore dX0_yearOf_152 rfl (Nat.le_of_ble_eq_true rfl) (Nat.le_of_ble_eq_true rfl) ?_
      exact J154 _ (by rw [hE]; unfold yearR; rw [if_neg c136]) X2 (YB_0 h2.1.1 (AP_tr hAP (by rw [← hR]; exact AP_fr (runsF_fr T1)))) (YF_FW hF h2.2.2) (YA_c hA (h2.2.2.1 52 (by omega))) (h2.1.1.1.2.1 2 (by decide))
    · refine V_aload_n dX0_yearOf_139 rfl ?_
      refine Vq_v (x_broken l hQ2) dX0_yearOf_140 (lw_V q1024 q1026 qs38 q95 q1027) hv_X0_broken (by decide) (wX_obj _) cl_X0 rfl rfl (Nat.le_of_ble_eq_true rfl) ?_
      refine V_goto (tgt := 152) dX0_yearOf_143 (by decide) ?_
      refine V_istore dX0_yearOf_152 rfl (Nat.le_of_ble_eq_true rfl) (Nat.le_of_ble_eq_true rfl) ?_
      exact J154 _ (by rw [hE]; unfold yearR; rw [if_pos c136]) X2 (YB_0 h2.1.1 (AP_tr hAP (by rw [← hR]; exact AP_fr (runsF_fr T1)))) (YF_FW hF h2.2.2) (YA_c hA (h2.2.2.1 52 (by omega))) (h2.1.1.1.2.1 2 (by decide))
  have hY1 : ¬ R 5 0 = 0 → yearF seed n what R = yearR seed n what R := fun z => by unfold yearF; rw [if_neg z]
  have L75 : ∀ (j i e : Nat) (now : Int32) (T1 X1 : xSt), 0 < pr → i + (j + 1) = n → runsF (yrK pr (j + 1) i now T1) = yrR seed n R → AP R T1 → PV T1 → T1 21 0 = R 21 0 → T1 25 0 = nI 0 → T1 26 0 = nI 0 → T1 22 0 = nI n → yrow i T1 X1 → YB R X1 → YF q X X1 → YA 0 q X1 → X1 10 0 = nI i → (X1 50 2 = 0 → i = 0 ∧ e = 1) → X1 53 0 = nI 1 → X1 47 1 = nI 1 → LQ X1 1 → X1 5 0 = nI pr → X1 45 4 = now → V l (yX0_yearOf.cls, cX0_yearOf, 9, (some .int), [(56, 154, 195, 0), (195, 197, 195, 0)], yX0_yearOf.name) (rmD 22 (rc X + 1) (rs X + 10), (fG X), Q, xX0) 75 [some (.ref 0), some (.int seed), some (.int (nI n)), some (.int what), some (.int (nI q)), some (.int (nI i)), none, none, none] [] (wX X1) (rc X1 + e) (rs X1 + 10 * e) := by
    intro j
    induction j with
    | zero =>
      intro i e now T1 X1 hp0 hij hR hAP hP h21 h25 h26 h22 hrow hB hF hA h10 h50 hm hf1 hL1 hX5 hnow
      obtain ⟨c2, L2⟩ := LQ_2 h10 (by omega) (fun z => (h50 z).1)
      have hr3 := Nat.mod_lt (hN (lcI (lcI now))) hp0
      have o1 : yo X1 (mwr (mwr (mwr (mwr X1 45 4 (lcI now)) 51 (2 * i + 0) (nI (hN (lcI now) % 24))) 45 4 (lcI (lcI now))) 51 (2 * i + 1) (nI (hN (lcI (lcI now)) % pr))) := yo_tr (yo_wr (by omega)) (yo_tr (yo_wr (by omega)) (yo_tr (yo_wr (by omega)) (yo_wr (by omega))))
      have c2b : cnt (mwr (mwr (mwr (mwr X1 45 4 (lcI now)) 51 (2 * i + 0) (nI (hN (lcI now) % 24))) 45 4 (lcI (lcI now))) 51 (2 * i + 1) (nI (hN (lcI (lcI now)) % pr))) 2 = i := c2
      have L2b : LQ (mwr (mwr (mwr (mwr X1 45 4 (lcI now)) 51 (2 * i + 0) (nI (hN (lcI now) % 24))) 45 4 (lcI (lcI now))) 51 (2 * i + 1) (nI (hN (lcI (lcI now)) % pr))) 2 := ⟨L2.1, L2.2.1, L2.2.2.1, L2.2.2.2⟩
      have hcb : CB (mwr (mwr (mwr (mwr X1 45 4 (lcI now)) 51 (2 * i + 0) (nI (hN (lcI now) % 24))) 45 4 (lcI (lcI now))) 51 (2 * i + 1) (nI (hN (lcI (lcI now)) % pr))) := CB_2 (YB_o hB o1) (by omega)
      have o2 := yo_tr o1 (yo_add (mwr (mwr (mwr (mwr X1 45 4 (lcI now)) 51 (2 * i + 0) (nI (hN (lcI now) % 24))) 45 4 (lcI (lcI now))) 51 (2 * i + 1) (nI (hN (lcI (lcI now)) % pr))))
      have hT9 : yrow (i + 1) (yrI pr i now T1) (addX 2 (mwr (mwr (mwr (mwr X1 45 4 (lcI now)) 51 (2 * i + 0) (nI (hN (lcI now) % 24))) 45 4 (lcI (lcI now))) 51 (2 * i + 1) (nI (hN (lcI (lcI now)) % pr)))) := yrow_s hrow (bd_n (by omega)) rfl
      have h10b : addX 2 (mwr (mwr (mwr (mwr X1 45 4 (lcI now)) 51 (2 * i + 0) (nI (hN (lcI now) % 24))) 45 4 (lcI (lcI now))) 51 (2 * i + 1) (nI (hN (lcI (lcI now)) % pr))) 10 0 = nI (i + 1) := by rw [show addX 2 (mwr (mwr (mwr (mwr X1 45 4 (lcI now)) 51 (2 * i + 0) (nI (hN (lcI now) % 24))) 45 4 (lcI (lcI now))) 51 (2 * i + 1) (nI (hN (lcI (lcI now)) % pr))) 10 0 = nI (cnt (mwr (mwr (mwr (mwr X1 45 4 (lcI now)) 51 (2 * i + 0) (nI (hN (lcI now) % 24))) 45 4 (lcI (lcI now))) 51 (2 * i + 1) (nI (hN (lcI (lcI now)) % pr))) 2 + 1) from addX_sz 2 _, c2b]
      have h50b : addX 2 (mwr (mwr (mwr (mwr X1 45 4 (lcI now)) 51 (2 * i + 0) (nI (hN (lcI now) % 24))) 45 4 (lcI (lcI now))) 51 (2 * i + 1) (nI (hN (lcI (lcI now)) % pr))) 50 2 = 0 → False := fun y => by rw [addX_50] at y; exact nI1_0 y
      have hAP2 : AP R (yrI pr i now T1) := AP_tr hAP (AP_tr (AP_wr (by omega)) (AP_wr (by omega)))
      have hP2 : PV (yrI pr i now T1) := PV_w24 (bd_n (by omega)) (PV_wr (by omega) hP)
      refine V_aload_n dX0_yearOf_75 rfl ?_
      refine V_getf (i := 22) k_X0 dX0_yearOf_76 (by decide) q249 (wX_obj _) rfl ?_
      refine V_iload dX0_yearOf_79 rfl ?_
      refine Vx_aa_spares dX0_yearOf_81 rfl (by omega) ?_
      refine V_iconst dX0_yearOf_82 li_0 ?_
      refine V_aload_n dX0_yearOf_83 rfl ?_
      refine V_bipush dX0_yearOf_84 lb_24 ?_
      refine Vz_vI (x_lot l (X := X1) (m := 24) (by decide) (by decide)) dX0_yearOf_86 (lw_V q1019 q1021 qs37 q95 q1022) hv_X0_lot (by decide) (wX_obj _) cl_X0 rfl rfl (Nat.le_of_ble_eq_true rfl) (fun _ h => h.elim) (fun _ _ => xok0) (fun _ _ => xok0) ⟨Nat.le_of_eq (Nat.zero_add _), Nat.le_of_eq (Nat.zero_add _)⟩ (fun x1 Xa ha => ?_)
      obtain ⟨e1, e2⟩ := ha
      rw [hnow] at e1 e2
      rw [e1, e2]
      refine Vx_st_spare dX0_yearOf_89 (by omega) rfl (by decide) ?_
      refine V_aload_n dX0_yearOf_90 rfl ?_
      refine V_getf (i := 22) k_X0 dX0_yearOf_91 (by decide) q249 (wX_obj _) rfl ?_
      refine V_iload dX0_yearOf_94 rfl ?_
      refine Vx_aa_spares dX0_yearOf_96 rfl (by omega) ?_
      refine V_iconst dX0_yearOf_97 li_1 ?_
      refine V_aload_n dX0_yearOf_98 rfl ?_
      refine V_aload_n dX0_yearOf_99 rfl ?_
      refine V_getf (i := 2) k_X0 dX0_yearOf_100 (by decide) q229 (wX_obj _) rfl ?_
      refine Vq_u (x_manyf1 l (show (mwr (mwr X1 45 4 (lcI now)) 51 (2 * i + 0) (nI (hN (lcI now) % 24))) 47 1 = nI 1 from hf1) (LQ1_yo hL1 (Y := (mwr (mwr X1 45 4 (lcI now)) 51 (2 * i + 0) (nI (hN (lcI now) % 24)))) (yo_tr (yo_wr (by omega)) (yo_wr (by omega))))) dX0_yearOf_103 (lw_U q707 q708 q709 q662 q96 q663) rfl hs_X1_many (by decide) (.inl ⟨_, _, _, _, (wX_tx1 _), cl_X3, rfl⟩) rfl (Nat.le_of_ble_eq_true rfl) ?_
      rw [show (mwr (mwr X1 45 4 (lcI now)) 51 (2 * i + 0) (nI (hN (lcI now) % 24))) 5 0 = nI pr from hX5]
      refine Vz_vI (x_lot l (X := (mwr (mwr X1 45 4 (lcI now)) 51 (2 * i + 0) (nI (hN (lcI now) % 24)))) (m := pr) hp0 (by omega)) dX0_yearOf_106 (lw_V q1019 q1021 qs37 q95 q1022) hv_X0_lot (by decide) (wX_obj _) cl_X0 rfl rfl (Nat.le_of_ble_eq_true rfl) (fun _ h => h.elim) (fun _ _ => xok0) (fun _ _ => xok0) ⟨Nat.le_of_eq (Nat.zero_add _), Nat.le_of_eq (Nat.zero_add _)⟩ (fun x3 Xb hb => ?_)
      obtain ⟨e1, e2⟩ := hb
      rw [show (mwr (mwr X1 45 4 (lcI now)) 51 (2 * i + 0) (nI (hN (lcI now) % 24))) 45 4 = lcI now from (mwr_r _ _ _ _ (by decide)).trans (mwr_s _ _ _ _)] at e1 e2
      rw [e1, e2]
      refine Vx_st_spare dX0_yearOf_109 (by omega) rfl (by decide) ?_
      refine V_aload_n dX0_yearOf_110 rfl ?_
      refine V_getf (i := 3) k_X0 dX0_yearOf_111 (by decide) q230 (wX_obj _) rfl ?_
      refine V_aload_n dX0_yearOf_114 rfl ?_
      refine V_getf (i := 22) k_X0 dX0_yearOf_115 (by decide) q249 (wX_obj _) rfl ?_
      refine V_iload dX0_yearOf_118 rfl ?_
      refine Vx_aa_spares dX0_yearOf_120 rfl (by omega) ?_
      refine V_room (k2 := rc X1 + e) (n2 := rs X1 + 10 * e) (Nat.le_refl _) (Nat.le_refl _) ?_
      refine V_add (k' := rc X1) (n' := rs X1) (q := 2) (v := 640 + i) (C := "[I") L2b (by omega) (by rw [c2b]; exact if_pos ⟨rfl, hm⟩) (.inr ⟨_, _, _, wX_spare (mwr (mwr (mwr (mwr X1 45 4 (lcI now)) 51 (2 * i + 0) (nI (hN (lcI now) % 24))) 45 4 (lcI (lcI now))) 51 (2 * i + 1) (nI (hN (lcI (lcI now)) % pr))) (show i < 8 by omega), by decide⟩) (nw q1721 rfl) (by decide) (fun z0 m d hd => wX_nr hcb.2 (tgt_da hcb (by decide) z0) hd) dX0_yearOf_121 (lw_V q726 q591 q592 q100 q593) (fun _ => .inr (.inl rfl)) (fun _ => (nel_c (ne_r (Nat.ne_of_beq_eq_false rfl)) (nel_c ne_i (nel_c ne_i (nel_c ne_i (nel_c ne_i (nel_c ne_i (nel_n (nel_n (nel_n nel_0)))))))))) (fun _ => nes_0) (by decide) (Nat.le_of_ble_eq_true rfl) ⟨fun y => by have := (h50 y).2; omega, by omega, by omega⟩ ?_
      refine V_pop dX0_yearOf_124 rfl ?_
      refine V_iinc dX0_yearOf_125 rfl (iinc_1 _) rfl (Nat.le_of_ble_eq_true rfl) ?_
      refine V_goto (tgt := 59) dX0_yearOf_128 (by decide) ?_
      refine V_iload dX0_yearOf_59 rfl ?_
      refine V_iload_n dX0_yearOf_61 rfl ?_
      refine V_icmp_geN (tgt := 131) dX0_yearOf_62 (by decide) (by omega) (by omega) (fun c62 => ?_) (fun c62 => ?_)
      · exact J131 n _ (yrI pr i now T1) (addX 2 (mwr (mwr (mwr (mwr X1 45 4 (lcI now)) 51 (2 * i + 0) (nI (hN (lcI now) % 24))) 45 4 (lcI (lcI now))) 51 (2 * i + 1) (nI (hN (lcI (lcI now)) % pr)))) hn8 (hY1 (fun z => by rw [p5.1] at z; have := nI_inj0 z (by omega); omega)) hR hAP2 hP2 h21 h25 h26 h22 (by rw [show n = i + 1 by omega]; exact hT9) (YB_o hB o2) (YF_o hF o2) (YA_c hA rfl) (by rw [h10b, show i + 1 = n by omega]) (fun y => (h50b y).elim) hm (fun v y a => by cases y; exact ne_i)
      · exact absurd c62 (by omega)
    | succ j ih =>
      intro i e now T1 X1 hp0 hij hR hAP hP h21 h25 h26 h22 hrow hB hF hA h10 h50 hm hf1 hL1 hX5 hnow
      obtain ⟨c2, L2⟩ := LQ_2 h10 (by omega) (fun z => (h50 z).1)
      have hr3 := Nat.mod_lt (hN (lcI (lcI now))) hp0
      have o1 : yo X1 (mwr (mwr (mwr (mwr X1 45 4 (lcI now)) 51 (2 * i + 0) (nI (hN (lcI now) % 24))) 45 4 (lcI (lcI now))) 51 (2 * i + 1) (nI (hN (lcI (lcI now)) % pr))) := yo_tr (yo_wr (by omega)) (yo_tr (yo_wr (by omega)) (yo_tr (yo_wr (by omega)) (yo_wr (by omega))))
      have c2b : cnt (mwr (mwr (mwr (mwr X1 45 4 (lcI now)) 51 (2 * i + 0) (nI (hN (lcI now) % 24))) 45 4 (lcI (lcI now))) 51 (2 * i + 1) (nI (hN (lcI (lcI now)) % pr))) 2 = i := c2
      have L2b : LQ (mwr (mwr (mwr (mwr X1 45 4 (lcI now)) 51 (2 * i + 0) (nI (hN (lcI now) % 24))) 45 4 (lcI (lcI now))) 51 (2 * i + 1) (nI (hN (lcI (lcI now)) % pr))) 2 := ⟨L2.1, L2.2.1, L2.2.2.1, L2.2.2.2⟩
      have hcb : CB (mwr (mwr (mwr (mwr X1 45 4 (lcI now)) 51 (2 * i + 0) (nI (hN (lcI now) % 24))) 45 4 (lcI (lcI now))) 51 (2 * i + 1) (nI (hN (lcI (lcI now)) % pr))) := CB_2 (YB_o hB o1) (by omega)
      have o2 := yo_tr o1 (yo_add (mwr (mwr (mwr (mwr X1 45 4 (lcI now)) 51 (2 * i + 0) (nI (hN (lcI now) % 24))) 45 4 (lcI (lcI now))) 51 (2 * i + 1) (nI (hN (lcI (lcI now)) % pr))))
      have hT9 : yrow (i + 1) (yrI pr i now T1) (addX 2 (mwr (mwr (mwr (mwr X1 45 4 (lcI now)) 51 (2 * i + 0) (nI (hN (lcI now) % 24))) 45 4 (lcI (lcI now))) 51 (2 * i + 1) (nI (hN (lcI (lcI now)) % pr)))) := yrow_s hrow (bd_n (by omega)) rfl
      have h10b : addX 2 (mwr (mwr (mwr (mwr X1 45 4 (lcI now)) 51 (2 * i + 0) (nI (hN (lcI now) % 24))) 45 4 (lcI (lcI now))) 51 (2 * i + 1) (nI (hN (lcI (lcI now)) % pr))) 10 0 = nI (i + 1) := by rw [show addX 2 (mwr (mwr (mwr (mwr X1 45 4 (lcI now)) 51 (2 * i + 0) (nI (hN (lcI now) % 24))) 45 4 (lcI (lcI now))) 51 (2 * i + 1) (nI (hN (lcI (lcI now)) % pr))) 10 0 = nI (cnt (mwr (mwr (mwr (mwr X1 45 4 (lcI now)) 51 (2 * i + 0) (nI (hN (lcI now) % 24))) 45 4 (lcI (lcI now))) 51 (2 * i + 1) (nI (hN (lcI (lcI now)) % pr))) 2 + 1) from addX_sz 2 _, c2b]
      have h50b : addX 2 (mwr (mwr (mwr (mwr X1 45 4 (lcI now)) 51 (2 * i + 0) (nI (hN (lcI now) % 24))) 45 4 (lcI (lcI now))) 51 (2 * i + 1) (nI (hN (lcI (lcI now)) % pr))) 50 2 = 0 → False := fun y => by rw [addX_50] at y; exact nI1_0 y
      have hAP2 : AP R (yrI pr i now T1) := AP_tr hAP (AP_tr (AP_wr (by omega)) (AP_wr (by omega)))
      have hP2 : PV (yrI pr i now T1) := PV_w24 (bd_n (by omega)) (PV_wr (by omega) hP)
      refine V_aload_n dX0_yearOf_75 rfl ?_
      refine V_getf (i := 22) k_X0 dX0_yearOf_76 (by decide) q249 (wX_obj _) rfl ?_
      refine V_iload dX0_yearOf_79 rfl ?_
      refine Vx_aa_spares dX0_yearOf_81 rfl (by omega) ?_
      refine V_iconst dX0_yearOf_82 li_0 ?_
      refine V_aload_n dX0_yearOf_83 rfl ?_
      refine V_bipush dX0_yearOf_84 lb_24 ?_
      refine Vz_vI (x_lot l (X := X1) (m := 24) (by decide) (by decide)) dX0_yearOf_86 (lw_V q1019 q1021 qs37 q95 q1022) hv_X0_lot (by decide) (wX_obj _) cl_X0 rfl rfl (Nat.le_of_ble_eq_true rfl) (fun _ h => h.elim) (fun _ _ => xok0) (fun _ _ => xok0) ⟨Nat.le_of_eq (Nat.zero_add _), Nat.le_of_eq (Nat.zero_add _)⟩ (fun x1 Xa ha => ?_)
      obtain ⟨e1, e2⟩ := ha
      rw [hnow] at e1 e2
      rw [e1, e2]
      refine Vx_st_spare dX0_yearOf_89 (by omega) rfl (by decide) ?_
      refine V_aload_n dX0_yearOf_90 rfl ?_
      refine V_getf (i := 22) k_X0 dX0_yearOf_91 (by decide) q249 (wX_obj _) rfl ?_
      refine V_iload dX0_yearOf_94 rfl ?_
      refine Vx_aa_spares dX0_yearOf_96 rfl (by omega) ?_
      refine V_iconst dX0_yearOf_97 li_1 ?_
      refine V_aload_n dX0_yearOf_98 rfl ?_
      refine V_aload_n dX0_yearOf_99 rfl ?_
      refine V_getf (i := 2) k_X0 dX0_yearOf_100 (by decide) q229 (wX_obj _) rfl ?_
      refine Vq_u (x_manyf1 l (show (mwr (mwr X1 45 4 (lcI now)) 51 (2 * i + 0) (nI (hN (lcI now) % 24))) 47 1 = nI 1 from hf1) (LQ1_yo hL1 (Y := (mwr (mwr X1 45 4 (lcI now)) 51 (2 * i + 0) (nI (hN (lcI now) % 24)))) (yo_tr (yo_wr (by omega)) (yo_wr (by omega))))) dX0_yearOf_103 (lw_U q707 q708 q709 q662 q96 q663) rfl hs_X1_many (by decide) (.inl ⟨_, _, _, _, (wX_tx1 _), cl_X3, rfl⟩) rfl (Nat.le_of_ble_eq_true rfl) ?_
      rw [show (mwr (mwr X1 45 4 (lcI now)) 51 (2 * i + 0) (nI (hN (lcI now) % 24))) 5 0 = nI pr from hX5]
      refine Vz_vI (x_lot l (X := (mwr (mwr X1 45 4 (lcI now)) 51 (2 * i + 0) (nI (hN (lcI now) % 24)))) (m := pr) hp0 (by omega)) dX0_yearOf_106 (lw_V q1019 q1021 qs37 q95 q1022) hv_X0_lot (by decide) (wX_obj _) cl_X0 rfl rfl (Nat.le_of_ble_eq_true rfl) (fun _ h => h.elim) (fun _ _ => xok0) (fun _ _ => xok0) ⟨Nat.le_of_eq (Nat.zero_add _), Nat.le_of_eq (Nat.zero_add _)⟩ (fun x3 Xb hb => ?_)
      obtain ⟨e1, e2⟩ := hb
      rw [show (mwr (mwr X1 45 4 (lcI now)) 51 (2 * i + 0) (nI (hN (lcI now) % 24))) 45 4 = lcI now from (mwr_r _ _ _ _ (by decide)).trans (mwr_s _ _ _ _)] at e1 e2
      rw [e1, e2]
      refine Vx_st_spare dX0_yearOf_109 (by omega) rfl (by decide) ?_
      refine V_aload_n dX0_yearOf_110 rfl ?_
      refine V_getf (i := 3) k_X0 dX0_yearOf_111 (by decide) q230 (wX_obj _) rfl ?_
      refine V_aload_n dX0_yearOf_114 rfl ?_
      refine V_getf (i := 22) k_X0 dX0_yearOf_115 (by decide) q249 (wX_obj _) rfl ?_
      refine V_iload dX0_yearOf_118 rfl ?_
      refine Vx_aa_spares dX0_yearOf_120 rfl (by omega) ?_
      refine V_room (k2 := rc X1 + e) (n2 := rs X1 + 10 * e) (Nat.le_refl _) (Nat.le_refl _) ?_
      refine V_add (k' := rc X1) (n' := rs X1) (q := 2) (v := 640 + i) (C := "[I") L2b (by omega) (by rw [c2b]; exact if_pos ⟨rfl, hm⟩) (.inr ⟨_, _, _, wX_spare (mwr (mwr (mwr (mwr X1 45 4 (lcI now)) 51 (2 * i + 0) (nI (hN (lcI now) % 24))) 45 4 (lcI (lcI now))) 51 (2 * i + 1) (nI (hN (lcI (lcI now)) % pr))) (show i < 8 by omega), by decide⟩) (nw q1721 rfl) (by decide) (fun z0 m d hd => wX_nr hcb.2 (tgt_da hcb (by decide) z0) hd) dX0_yearOf_121 (lw_V q726 q591 q592 q100 q593) (fun _ => .inr (.inl rfl)) (fun _ => (nel_c (ne_r (Nat.ne_of_beq_eq_false rfl)) (nel_c ne_i (nel_c ne_i (nel_c ne_i (nel_c ne_i (nel_c ne_i (nel_n (nel_n (nel_n nel_0)))))))))) (fun _ => nes_0) (by decide) (Nat.le_of_ble_eq_true rfl) ⟨fun y => by have := (h50 y).2; omega, by omega, by omega⟩ ?_
      refine V_pop dX0_yearOf_124 rfl ?_
      refine V_iinc dX0_yearOf_125 rfl (iinc_1 _) rfl (Nat.le_of_ble_eq_true rfl) ?_
      refine V_goto (tgt := 59) dX0_yearOf_128 (by decide) ?_
      refine V_iload dX0_yearOf_59 rfl ?_
      refine V_iload_n dX0_yearOf_61 rfl ?_
      refine V_icmp_geN (tgt := 131) dX0_yearOf_62 (by decide) (by omega) (by omega) (fun c62 => ?_) (fun c62 => ?_)
      · exact absurd c62 (by omega)
      · refine V_aload_n dX0_yearOf_65 rfl ?_
        refine V_getf (i := 2) k_X0 dX0_yearOf_66 (by decide) q229 (wX_obj _) rfl ?_
        refine Vq_u (x_manyf1 l (show addX 2 (mwr (mwr (mwr (mwr X1 45 4 (lcI now)) 51 (2 * i + 0) (nI (hN (lcI now) % 24))) 45 4 (lcI (lcI now))) 51 (2 * i + 1) (nI (hN (lcI (lcI now)) % pr))) 47 1 = nI 1 from hf1) (LQ1_yo hL1 o2)) dX0_yearOf_69 (lw_U q707 q708 q709 q662 q96 q663) rfl hs_X1_many (by decide) (.inl ⟨_, _, _, _, (wX_tx1 _), cl_X3, rfl⟩) rfl (Nat.le_of_ble_eq_true rfl) ?_
        rw [show addX 2 (mwr (mwr (mwr (mwr X1 45 4 (lcI now)) 51 (2 * i + 0) (nI (hN (lcI now) % 24))) 45 4 (lcI (lcI now))) 51 (2 * i + 1) (nI (hN (lcI (lcI now)) % pr))) 5 0 = nI pr from hX5]
        refine V_if_le (tgt := 131) dX0_yearOf_72 (by decide) (fun c72 => ?_) (fun c72 => ?_)
        · exact absurd c72 (by rw [Int32.not_le]; exact nI_lt hp0 (by omega))
        · have z := ih (i + 1) 0 (lcI (lcI now)) (yrI pr i now T1) (addX 2 (mwr (mwr (mwr (mwr X1 45 4 (lcI now)) 51 (2 * i + 0) (nI (hN (lcI now) % 24))) 45 4 (lcI (lcI now))) 51 (2 * i + 1) (nI (hN (lcI (lcI now)) % pr)))) hp0 (by omega) hR hAP2 hP2 h21 h25 h26 h22 hT9 (YB_o hB o2) (YF_o hF o2) (YA_c hA rfl) h10b (fun y => (h50b y).elim) hm hf1 (LQ1_yo hL1 o2) hX5 ((mwr_r _ _ _ _ (by decide)).trans ((mwr_r _ _ _ _ (by decide)).trans ((mwr_r _ _ _ _ (by decide)).trans (mwr_r _ _ _ _ (by decide) |>.trans (mwr_s _ _ _ _)))))
          exact z
  have hmono : True := trivial
  have S59 : ∀ (X1 : xSt), (∀ r, r ≠ 52 → X1 r = X r) → YA 0 q X1 → V l (yX0_yearOf.cls, cX0_yearOf, 9, (some .int), [(56, 154, 195, 0), (195, 197, 195, 0)], yX0_yearOf.name) (rmD 22 (rc X + 1) (rs X + 10), (fG X), Q, xX0) 59 [some (.ref 0), some (.int seed), some (.int (nI n)), some (.int what), some (.int (nI q)), some (.int (nI 0)), none, none, none] [] (wX (mwr (mwr (clX 2 X1) 45 4 seed) 53 0 (nI 1))) (rc X + 1) (rs X + 10) := by
    intro X1 hn hA
    have o0 : yo X (mwr (mwr (clX 2 X1) 45 4 seed) 53 0 (nI 1)) := yo_tr (show yo X X1 from ⟨fun r _ _ _ _ _ a _ => hn r a, fun i _ => by rw [hn 10 (by decide)], fun i _ => by rw [hn 45 (by decide)], fun i _ => by rw [hn 50 (by decide)], fun z => by rw [hn 50 (by decide)]; exact z⟩) (yo_tr (yo_cl X1) (yo_tr (yo_wr (by omega)) (yo_wr (by omega))))
    have hF0 : YF q X X := ⟨fun _ _ => rfl, fun _ _ => rfl, h.2.2, hst, ⟨fun z => z, fun z => z⟩, hg0⟩
    have h10 : (mwr (mwr (clX 2 X1) 45 4 seed) 53 0 (nI 1)) 10 0 = nI 0 := (mwr_r _ _ _ _ (by decide)).trans ((mwr_r _ _ _ _ (by decide)).trans (mwr_s _ _ _ _))
    obtain ⟨c2, L2⟩ := LQ_2 h10 (by decide) (fun _ => rfl)
    have hAP : AP R (mwr R 22 0 (nI 0)) := AP_wr (by omega)
    have hP : PV (mwr R 22 0 (nI 0)) := PV_w22 (bd_n (by omega)) h.1.2.2.2.2.1
    have hXT : XT (mwr R 22 0 (nI 0)) (mwr (mwr (clX 2 X1) 45 4 seed) 53 0 (nI 1)) := YB_XT (YB_o (YB_0 h.1 (AP_rf R)) o0) hAP L2 (by rw [h10]; exact bd_n (by omega)) hP (XK_y (k := 0) (fun u hu => absurd hu (by omega)) h10 c2 (mwr_s _ _ _ _) (mwr_s _ _ _ _) (YF_o hF0 o0).2.2.1.1 ((YF_o hF0 o0).2.2.1.2.2.1.trans h.2.1.2.2.1.symm) ((YF_o hF0 o0).2.2.1.2.2.2.trans h.2.1.2.2.2.1.symm)) (.inl ⟨(YF_o hF0 o0).2.2.1.2.1, h.2.1.2.2.2.2.1⟩)
    have e47 : (mwr (mwr (clX 2 X1) 45 4 seed) 53 0 (nI 1)) 47 = X 47 := hn 47 (by decide)
    refine V_iload dX0_yearOf_59 rfl ?_
    refine V_iload_n dX0_yearOf_61 rfl ?_
    refine V_icmp_geN (tgt := 131) dX0_yearOf_62 (by decide) (by omega) (by omega) (fun c62 => ?_) (fun c62 => ?_)
    · have hE : yearF seed n what R = yearR seed 0 what R := by unfold yearF; rw [show n = 0 by omega, ite_self]
      have er : rc (mwr (mwr (clX 2 X1) 45 4 seed) 53 0 (nI 1)) = rc X ∧ rs (mwr (mwr (clX 2 X1) 45 4 seed) 53 0 (nI 1)) = rs X := by unfold rc rs; rw [e47]; exact ⟨rfl, rfl⟩
      refine V_room (k2 := rc (mwr (mwr (clX 2 X1) 45 4 seed) 53 0 (nI 1))) (n2 := rs (mwr (mwr (clX 2 X1) 45 4 seed) 53 0 (nI 1))) (by rw [er.1]; omega) (by rw [er.2]; omega) ?_
      exact J131 0 _ (mwr R 22 0 (nI 0)) (mwr (mwr (clX 2 X1) 45 4 seed) 53 0 (nI 1)) (by decide) hE rfl hAP hP rfl h.2.1.2.2.1 h.2.1.2.2.2.1 (mwr_s _ _ _ _) (fun u hu => absurd hu (by omega)) (YB_o (YB_0 h.1 (AP_rf R)) o0) (YF_o hF0 o0) (YA_c hA rfl) h10 (fun _ => rfl) (mwr_s _ _ _ _) (fun v y a => by cases y; exact ne_i)
    · refine V_aload_n dX0_yearOf_65 rfl ?_
      refine V_getf (i := 2) k_X0 dX0_yearOf_66 (by decide) q229 (wX_obj _) rfl ?_
      refine Vz_uI (k' := rct 0 X + 1) (n' := rst 0 X + 10) (x_manyT1 l hXT) dX0_yearOf_69 (lw_U q707 q708 q709 q662 q96 q663) rfl hs_X1_many (by decide) (.inl ⟨_, _, _, _, (wX_tx1 _), cl_X3, rfl⟩) rfl (Nat.le_of_ble_eq_true rfl) (fun m z => .inl (gF1_of (X := X) (Y := (mwr (mwr (clX 2 X1) 45 4 seed) 53 0 (nI 1))) (by rw [e47]) m z)) (okl_c (ok_r (gF_ok (by decide))) (okl_c ok_i (okl_c ok_i (okl_c ok_i (okl_c ok_i (okl_c ok_i (okl_n (okl_n (okl_n okl_0))))))))) oks_0 ⟨by unfold rc rct; rw [e47]; omega, by unfold rs rst; rw [e47]; omega⟩ (fun x2 X2 h2 => ?_)
      obtain ⟨ex, h3, h4, h5⟩ := h2
      rw [ex, show mwr R 22 0 (nI 0) 5 0 = R 5 0 from rfl]
      have hW : ∀ r, (9 < r ∧ r < 46) ∨ (50 < r ∧ r < 54) → X2 r = (mwr (mwr (clX 2 X1) 45 4 seed) 53 0 (nI 1)) r := fun r hr => h5.1 r (by omega) (by omega) (by omega) (by omega) (by omega) (by omega) (by omega) (by omega) (by omega) (by omega) (by omega)
      have er : rc X2 = rct 0 X ∧ rs X2 = rst 0 X := rc_1 h4 ((h5.2.1 47 0 (by decide) (by decide)).trans (by rw [e47]))
      refine V_if_le (tgt := 131) dX0_yearOf_72 (by decide) (fun c72 => ?_) (fun c72 => ?_)
      · have z0 : R 5 0 = 0 := by rw [p5.1] at c72 ⊢; have := (nI_leI (a := pr) (b := 0) (by omega) (by decide)).mp c72; rw [show pr = 0 by omega]; rfl
        have hE : yearF seed n what R = yearR seed 0 what R := by unfold yearF; rw [if_pos z0]
        refine V_room (k2 := rc X2) (n2 := rs X2) (by rw [er.1]; omega) (by rw [er.2]; omega) ?_
        exact J131 0 _ (mwr R 22 0 (nI 0)) X2 (by decide) hE rfl hAP hP rfl h.2.1.2.2.1 h.2.1.2.2.2.1 (mwr_s _ _ _ _) (fun u hu => absurd hu (by omega)) (YB_0 h3 hAP) (YF_FW (YF_o hF0 o0) (FW_1 h5 h4)) (YA_c hA (hW 52 (by decide))) (by rw [hW 10 (by decide)]; exact h10) (fun _ => rfl) (by rw [hW 53 (by decide)]; exact mwr_s _ _ _ _) (fun v y a => by cases y; exact ne_i)
      · have hp0 : 0 < pr := Nat.pos_of_ne_zero (fun z => c72 (by rw [p5.1, z]; decide +kernel))
        obtain ⟨j, hj⟩ : ∃ j, n = j + 1 := ⟨n - 1, by omega⟩
        have z := L75 j 0 1 seed (mwr R 22 0 (nI n)) X2 hp0 (by omega) (by unfold yrR; rw [hpr, hj]) (AP_wr (by omega)) (PV_w22 (bd_n (by omega)) h.1.2.2.2.2.1) rfl h.2.1.2.2.1 h.2.1.2.2.2.1 (mwr_s _ _ _ _) (fun u hu => absurd hu (by omega)) (YB_0 h3 hAP) (YF_FW (YF_o hF0 o0) (FW_1 h5 h4)) (YA_c hA (hW 52 (by decide))) (by rw [hW 10 (by decide)]; exact h10) (fun _ => ⟨rfl, rfl⟩) (by rw [hW 53 (by decide)]; exact mwr_s _ _ _ _) h4 (h3.1.2.1 1 (by decide)) (by rw [((h3.2.2.2.2.2.2.2.1.resolve_right (fun z => by rw [h4] at z; exact absurd z.1 (by decide +kernel))).2).1]; exact p5.1) (by rw [hW 45 (by decide)]; exact (mwr_r _ _ _ _ (by decide)).trans (mwr_s _ _ _ _))
        rw [er.1, er.2] at z
        exact z
  have LA : ∀ (j i : Nat) (X1 : xSt), i + j = q → (∀ r, r ≠ 52 → X1 r = X r) → (∀ u, u < i → X1 52 u = nI 2) → (∀ u, i ≤ u → X1 52 u = X 52 u) → V l (yX0_yearOf.cls, cX0_yearOf, 9, (some .int), [(56, 154, 195, 0), (195, 197, 195, 0)], yX0_yearOf.name) (rmD 22 (rc X + 1) (rs X + 10), (fG X), Q, xX0) 12 [some (.ref 0), some (.int seed), some (.int (nI n)), some (.int what), some (.int (nI q)), some (.int (nI i)), none, none, none] [] (wX X1) (rc X + 1) (rs X + 10) := by
    intro j
    induction j with
    | zero =>
      intro i X1 hij hn hA1 hA2
      have L2 : LQ X1 2 := LQ_of (X := X) (by rw [show szr 2 = 10 from rfl, hn 10 (by decide)]) (hn 50 (by decide)) (hl 2 (by decide))
      refine V_iload dX0_yearOf_12 rfl ?_
      refine V_iload dX0_yearOf_14 rfl ?_
      refine V_icmp_geN (tgt := 44) dX0_yearOf_16 (by decide) (by omega) (by omega) (fun c16 => ?_) (fun c16 => ?_)
      · refine V_aload_n dX0_yearOf_44 rfl ?_
        refine V_getf (i := 3) k_X0 dX0_yearOf_45 (by decide) q230 (wX_obj _) rfl ?_
        refine V_clear (q := 2) (L2) dX0_yearOf_48 (lw_V q949 q357 q358 q100 q359) (Nat.le_of_ble_eq_true rfl) (by decide) ?_
        refine V_aload_n dX0_yearOf_51 rfl ?_
        refine V_iload_n dX0_yearOf_52 rfl ?_
        refine Vx_put20 dX0_yearOf_53 q247 ?_
        refine V_iconst dX0_yearOf_56 li_0 ?_
        refine V_istore dX0_yearOf_57 rfl (Nat.le_of_ble_eq_true rfl) (Nat.le_of_ble_eq_true rfl) ?_
        rw [← wX_mode (X := mwr (clX 2 X1) 45 4 seed) (v := nI 1) (cnt_of (show mwr (clX 2 X1) 45 4 seed (szr 2) 0 = nI 0 from (mwr_r _ _ _ _ (by decide)).trans (mwr_s _ _ _ _)) (by decide))]
        exact S59 X1 hn (fun u hu => ⟨fun a => absurd a (by omega), fun _ a => hA1 u (by omega), fun a => by rw [hA2 u (by omega)]; exact hAS u hu⟩)
      · exact absurd c16 (by omega)
    | succ j ih =>
      intro i X1 hij hn hA1 hA2
      have L2 : LQ X1 2 := LQ_of (X := X) (by rw [show szr 2 = 10 from rfl, hn 10 (by decide)]) (hn 50 (by decide)) (hl 2 (by decide))
      have hc2 : cnt X1 2 = q := by unfold cnt; rw [show szr 2 = 10 from rfl, hn 10 (by decide)]; exact hqq
      have hs : i < std X1 2 := by unfold std; rw [hn 54 (by decide)]; exact Nat.lt_of_lt_of_eq (show i < q by omega) hst.symm
      have he : eln X1 2 i = 1216 + i := (if_neg (fun z => absurd (((congrFun (hn 53 (by decide)) 0).trans h53).symm.trans z.2) (by decide +kernel))).trans (by omega)
      refine V_iload dX0_yearOf_12 rfl ?_
      refine V_iload dX0_yearOf_14 rfl ?_
      refine V_icmp_geN (tgt := 44) dX0_yearOf_16 (by decide) (by omega) (by omega) (fun c16 => ?_) (fun c16 => ?_)
      · exact absurd c16 (by omega)
      · refine V_aload_n dX0_yearOf_19 rfl ?_
        refine V_getf (i := 21) k_X0 dX0_yearOf_20 (by decide) q248 (wX_obj _) rfl ?_
        refine V_iload dX0_yearOf_23 rfl ?_
        refine V_aload_n dX0_yearOf_25 rfl ?_
        refine V_getf (i := 3) k_X0 dX0_yearOf_26 (by decide) q230 (wX_obj _) rfl ?_
        refine V_iload dX0_yearOf_29 rfl ?_
        refine V_get (q := 2) (L2) rfl (by omega) dX0_yearOf_31 (lw_V q665 q666 q667 q100 q668) (Nat.le_of_ble_eq_true rfl) (by decide) ?_
        rw [he]
        refine V_castE dX0_yearOf_34 q213 (.inr ⟨_, _, _, (wX_ke X1 (by omega) hs), by decide⟩) ?_
        refine Vx_st_aside dX0_yearOf_37 rfl (by omega) rfl hs ?_
        refine V_iinc dX0_yearOf_38 rfl (iinc_1 _) rfl (Nat.le_of_ble_eq_true rfl) ?_
        refine V_goto (tgt := 12) dX0_yearOf_41 (by decide) ?_
        exact ih (i + 1) (mwr X1 52 i (nI 2)) (by omega) (fun r a => (mwr_R _ _ _ a).trans (hn r a)) (fun u hu => (show u = i ∨ u ≠ i by omega).elim (fun e => by rw [e, mwr_s]) (fun e => (mwr_q _ _ _ _ e).trans (hA1 u (by omega)))) (fun u hu => (mwr_q _ _ _ _ (by omega)).trans (hA2 u (by omega)))
  refine V_aload_n dX0_yearOf_0 rfl ?_
  refine V_getf (i := 3) k_X0 dX0_yearOf_1 (by decide) q230 (wX_obj _) rfl ?_
  refine V_size (q := 2) (hl 2 (by decide)) dX0_yearOf_4 (lw_V q725 q365 q366 q100 q367) (Nat.le_of_ble_eq_true rfl) (by decide) ?_
  rw [hqq]
  refine V_istore dX0_yearOf_7 rfl (Nat.le_of_ble_eq_true rfl) (Nat.le_of_ble_eq_true rfl) ?_
  refine V_iconst dX0_yearOf_9 li_0 ?_
  refine V_istore dX0_yearOf_10 rfl (Nat.le_of_ble_eq_true rfl) (Nat.le_of_ble_eq_true rfl) ?_
  exact LA q 0 X (Nat.zero_add _) (fun _ _ => rfl) (fun u hu => absurd hu (by omega)) (fun _ _ => rfl)
