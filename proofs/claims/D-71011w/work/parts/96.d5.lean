/-! PromiseTailor's side: digest -/
set_option maxRecDepth 100000
/-- every name that a call may make anew -/
def fA (n : Nat) : Prop := (256 ≤ n ∧ n < 262) ∨ 1088 ≤ n
theorem fA_lo : ∀ n, 900 ≤ n → n < 950 → ¬ fA n := fun n a b h => by unfold fA at h; omega
theorem fF_A {X : xSt} : ∀ n, fF X n → fA n := fun n h => by unfold fF at h; unfold fA; omega
theorem fG_A {X : xSt} : ∀ n, fG X n → fA n := fun n h => by
  unfold fG at h
  rcases h with h | h | h
  · exact fF_A n h
  · unfold fA; omega
  · unfold fA; omega
theorem gF_A {t : Nat} {X : xSt} (ht : t < 2) : ∀ n, gF t X n → fA n := fun n h => fF_A n (gF_fF ht n h)
theorem fG_ok0 {X : xSt} : ¬ fG X 0 := fun h => by have := fG_A 0 h; unfold fA at this; omega
theorem rct_le (t : Nat) (X : xSt) : rct t X ≤ 100 ∧ rst t X ≤ 700 := by
  unfold rct rst
  by_cases c : X 47 t = nI 1
  · rw [if_pos c, if_pos c]; omega
  · rw [if_neg c, if_neg c]; omega
theorem rc_le (X : xSt) : rc X ≤ 200 ∧ rs X ≤ 1400 := by
  unfold rc rs
  by_cases c : X 47 0 = nI 1
  · by_cases d : X 47 1 = nI 1
    · rw [if_pos c, if_pos d, if_pos c, if_pos d]; omega
    · rw [if_pos c, if_neg d, if_pos c, if_neg d]; omega
  · by_cases d : X 47 1 = nI 1
    · rw [if_neg c, if_pos d, if_neg c, if_pos d]; omega
    · rw [if_neg c, if_neg d, if_neg c, if_neg d]; omega
def fYr (i : Nat) (h : Int64) (S : xSt) : xQ := (mx h (yearF (nI 7) 6 (nI i) (asToldF S)).1, (yearF (nI 7) 6 (nI i) (asToldF S)).2)
def fKp (i : Nat) (h : Int64) (S : xSt) : xQ := (mx h (keepF 8 (nI i) (asToldF S)).1, (keepF 8 (nI i) (asToldF S)).2)
theorem dtF6_it (h : Int64) (S : xSt) : dtF6 h S = itQ fYr 2 0 h S := by
  rw [itQ_2]
  unfold dtF6 dtF7 fYr
  dsimp only
theorem dtF2_it (h : Int64) (S : xSt) : dtF2 h S = dtF4 (itQ fKp 2 0 h S).1 (itQ fKp 2 0 h S).2 := by
  rw [itQ_2]
  unfold dtF2 dtF3 fKp
  dsimp only
theorem XR_sz {S X : xSt} (h : XR S X) (hF : FRS X) (hE : SE S) : X 2 0 = S 2 0 ∧ X 5 0 = S 5 0 := by
  obtain ⟨-, -, -, -, -, -, -, -, -, -, -, y0, y1⟩ := RD_x h.1.1 hF
  exact ⟨y0.1.trans (SE_5 hE).2.symm, y1.1.trans (SE_5 hE).1.symm⟩
theorem pt0 (S : xSt) : (partsF0 (asToldF S)).1 = (partsF0 S).1 := (partsF0_e (told_c S).1 (told_c S).2).1
theorem pt1 (S : xSt) : (partsF1 (asToldF S)).1 = (partsF1 (partsF0 S).2).1 := (partsF1_e ((told_c S).1.trans (p0_c S).1.symm) ((told_c S).2.trans (p0_c S).2.symm)).1
theorem dgP_0 (p : Nat) (h : Int64) (S : xSt) : dgP 0 p h S = (h, S) := rfl
theorem dgK_0 (p : Nat) (h : Int64) (S : xSt) : dgK 0 p h S = (h, S) := rfl
theorem dgD_0 (p : Nat) (h : Int64) (S : xSt) : dgD 0 p h S = (h, S) := rfl
theorem dgC_0 (p : Nat) (h : Int64) (S : xSt) : dgC 0 p h S = (h, S) := rfl
theorem many_lt {a : Int32} {p n : Nat} (ha : bd a n) (hn : n < 1000) (hp : p < 1000) (h : ¬ a ≤ nI p) : p < vN a := by
  obtain ⟨m, hm, e⟩ := ha
  rw [e] at h ⊢
  rw [vN_nI (by omega)]
  exact Nat.lt_of_not_le fun z => h (nI_le z (by omega))

set_option maxHeartbeats 2000000 in
theorem x_digest (l : Launch) {G X : xSt} (h0 : XR G X) (hM : MI G) : Cz l yX0_digest (ws_ yX0_digest cX0_digest 4 (some .long)) 71 1802 12620 fA [.ref 0] X (fun r X' => ∃ x, r = some (.long x) ∧ x = (digestF G).1 ∧ XR (digestF G).2 X') := by
  refine Cz_start (ls := [some (.ref 0), none, none, none]) (by decide) rfl (Nat.le_of_ble_eq_true rfl) fA_lo ?_
  intro Q hQ
  generalize hRR : digestF G = R at hQ
  have L261 : ∀ (j : Nat) (i : Nat) (a : Int64) (S X1 : xSt) (hX : XR S X1) (hMS : MI S) (hF1 : FRS X1) (hij : i + j = 2) (hR : itQ fYr j i a S = R), V l (yX0_digest.cls, cX0_digest, 4, (some .long), [], yX0_digest.name) (rmD 71 1802 12620, fA, Q, xX0) 261 [some (.ref 0), some (.long a), none, some (.int (nI i))] [] (wX X1) j (10 * j) := by
    intro j
    induction j with
    | zero =>
      intro i a S X1 hX hMS hF1 hij hR
      refine V_iload_n dX0_digest_261 rfl ?_
      refine V_iconst dX0_digest_262 li_2 ?_
      refine V_icmp_ge (tgt := 289) dX0_digest_263 (by decide) (fun _ => ?_) (fun c263 => absurd (nI_le (by omega) (by omega)) c263)
      refine V_lload_n dX0_digest_289 rfl ?_
      exact V_lreturn dX0_digest_290 rfl (hQ _ _ ⟨_, rfl, ⟨by rw [← hR, itQ_0], by rw [← hR, itQ_0]; exact hX⟩⟩)
    | succ j ih =>
      intro i a S X1 hX hMS hF1 hij hR
      refine V_iload_n dX0_digest_261 rfl ?_
      refine V_iconst dX0_digest_262 li_2 ?_
      refine V_icmp_ge (tgt := 289) dX0_digest_263 (by decide) (fun c263 => absurd c263 (nI_ge (by omega) (by omega))) (fun _ => ?_)
      refine V_ldc2 dX0_digest_266 q1144 ?_
      refine V_lload_n dX0_digest_269 rfl ?_
      refine V_lmul dX0_digest_270 ?_
      refine V_aload_n dX0_digest_271 rfl ?_
      refine V_bipush dX0_digest_272 lb_7 ?_
      refine V_bipush dX0_digest_274 lb_6 ?_
      refine V_iload_n dX0_digest_276 rfl ?_
      refine Vz_wI (k' := j) (n' := 10 * j) (x_yearOf l hX.1 hX.2.1 hX.2.2 (seed := nI 7) (n := 6) (what := nI i) (by decide)) dX0_digest_277 (lw_VW q1015 q1017 qs36 q95 q1018) hv_X0_yearOf (by decide) (wX_obj _) cl_X0 rfl rfl (Nat.le_of_ble_eq_true rfl) fG_A (okl_c (ok_r fG_ok0) (okl_c ok_l (okl_n (okl_c ok_i okl_0)))) (oks_c ok_l oks_0) ⟨by rw [(rc_0 hF1).1]; omega, by rw [(rc_0 hF1).2]; omega⟩ (fun x3 X3 h3 => ?_)
      obtain ⟨e3, h4, h5⟩ := h3
      have hC := CO_yr hMS (seed := nI 7) (n := 6) (what := nI i) (by decide)
      have hX3 := CO_XR (XR_YV hX h4 h5) hC
      have hF3 : FRS X3 := ⟨h5.2.2.2.1 hF1.1, h5.2.2.2.2 hF1.2⟩
      refine V_i2l dX0_digest_280 rfl ?_
      refine V_ladd dX0_digest_281 ?_
      refine V_lstore_n dX0_digest_282 rfl (Nat.le_of_ble_eq_true rfl) (Nat.le_of_ble_eq_true rfl) ?_
      refine V_iinc dX0_digest_283 rfl (iinc_1 _) rfl (Nat.le_of_ble_eq_true rfl) ?_
      refine V_goto (tgt := 261) dX0_digest_286 (by decide) ?_
      exact ih (i + 1) _ _ X3 hX3 hC.1 hF3 (by omega) (by rw [← hR, itQ_s, e3, mx_e]; unfold fYr; dsimp only)
  have J247 : ∀ (a : Int64) (xx : Option Value) (hxx : xx = some (.int (nI 1))) (S X1 : xSt) (hX : XR S X1) (hMS : MI S) (hF1 : FRS X1) (hR : dtF5 a S = R), V l (yX0_digest.cls, cX0_digest, 4, (some .long), [], yX0_digest.name) (rmD 71 1802 12620, fA, Q, xX0) 247 [some (.ref 0), some (.long a), none, xx] [] (wX X1) 2 20 := by
    intro a xx hxx S X1 hX hMS hF1 hR
    rw [hxx]
    refine V_ldc2 dX0_digest_247 q1144 ?_
    refine V_lload_n dX0_digest_250 rfl ?_
    refine V_lmul dX0_digest_251 ?_
    refine V_aload_n dX0_digest_252 rfl ?_
    refine Vz_wI (k' := 2) (n' := 20) (x_neverNow l hX.1 (XR_10 hX) (LI_0 hMS).2.1) dX0_digest_253 (lw_VW q954 q956 qs28 q95 q957) hv_X0_neverNow (by decide) (wX_obj _) cl_X0 rfl rfl (Nat.le_of_ble_eq_true rfl) fF_A (okl_c (ok_r (fF_ok (.inl (Nat.le_of_ble_eq_true rfl)))) (okl_c ok_l (okl_n (okl_c ok_i okl_0)))) (oks_c ok_l oks_0) ⟨by rw [(rc_0 hF1).1]; omega, by rw [(rc_0 hF1).2]; omega⟩ (fun x3 X3 h3 => ?_)
    obtain ⟨e3, h4, h5⟩ := h3
    have hC := CO_nv hMS
    have hX3 := CO_XR (XR_FV hX h4 h5) hC
    have hF3 := FRS_FV hF1 h5
    refine V_i2l dX0_digest_256 rfl ?_
    refine V_ladd dX0_digest_257 ?_
    refine V_lstore_n dX0_digest_258 rfl (Nat.le_of_ble_eq_true rfl) (Nat.le_of_ble_eq_true rfl) ?_
    refine V_iconst dX0_digest_259 li_0 ?_
    refine V_istore_n dX0_digest_260 rfl (Nat.le_of_ble_eq_true rfl) (Nat.le_of_ble_eq_true rfl) ?_
    refine L261 2 0 _ _ X3 hX3 hC.1 hF3 rfl ?_
    rw [← hR, e3, mx_e]
    unfold dtF5
    rw [dtF6_it]
  have J223c : ∀ (a : Int64) (S X1 : xSt) (hX : XR S X1) (hMS : MI S) (hF1 : FRS X1) (hR : dtF5 a S = R), V l (yX0_digest.cls, cX0_digest, 4, (some .long), [], yX0_digest.name) (rmD 71 1802 12620, fA, Q, xX0) 223 [some (.ref 0), some (.long a), none, some (.int (nI 1))] [] (wX X1) 2 20 := by
    intro a S X1 hX hMS hF1 hR
    refine V_iload_n dX0_digest_223 rfl ?_
    refine V_iconst dX0_digest_224 li_1 ?_
    refine V_icmp_ge (tgt := 247) dX0_digest_225 (by decide) (fun _ => ?_) (fun c225 => absurd (by decide +kernel) c225)
    exact J247 a _ rfl S X1 hX hMS hF1 hR
  have J223b : ∀ (a : Int64) (S X1 : xSt) (hX : XR S X1) (hMS : MI S) (hF1 : FRS X1) (hR : dtF5 (mx a (ofRowF (hushF (asToldF S)).2 (hushF (asToldF S)).1 (nI 0))) (hushF (asToldF S)).2 = R), V l (yX0_digest.cls, cX0_digest, 4, (some .long), [], yX0_digest.name) (rmD 71 1802 12620, fA, Q, xX0) 223 [some (.ref 0), some (.long a), none, some (.int (nI 0))] [] (wX X1) 2 20 := by
    intro a S X1 hX hMS hF1 hR
    refine V_iload_n dX0_digest_223 rfl ?_
    refine V_iconst dX0_digest_224 li_1 ?_
    refine V_icmp_ge (tgt := 247) dX0_digest_225 (by decide) (fun c225 => absurd c225 (by decide +kernel)) (fun _ => ?_)
    refine V_ldc2 dX0_digest_228 q1144 ?_
    refine V_lload_n dX0_digest_231 rfl ?_
    refine V_lmul dX0_digest_232 ?_
    refine V_aload_n dX0_digest_233 rfl ?_
    refine V_iload_n dX0_digest_234 rfl ?_
    refine Vz_vI (k' := 2) (n' := 20) (x_hushBy l hX.1 (i := nI 0) (.inr (.inl rfl))) dX0_digest_235 (lw_V q932 q934 qs26 q95 q935) hv_X0_hushBy (by decide) (wX_obj _) cl_X0 rfl rfl (Nat.le_of_ble_eq_true rfl) fF_A (okl_c (ok_r (fF_ok (.inl (Nat.le_of_ble_eq_true rfl)))) (okl_c ok_l (okl_n (okl_c ok_i okl_0)))) (oks_c ok_l oks_0) ⟨by rw [(rc_0 hF1).1]; omega, by rw [(rc_0 hF1).2]; omega⟩ (fun x3 X3 h3 => ?_)
    obtain ⟨e3, h4, h5⟩ := h3
    have hC := CO_hu hMS
    have hX3 := CO_XR (XR_FV hX h4 h5) hC
    have hF3 := FRS_FV hF1 h5
    refine V_i2l dX0_digest_238 rfl ?_
    refine V_ladd dX0_digest_239 ?_
    refine V_lstore_n dX0_digest_240 rfl (Nat.le_of_ble_eq_true rfl) (Nat.le_of_ble_eq_true rfl) ?_
    refine V_iinc dX0_digest_241 rfl (iinc_1 _) rfl (Nat.le_of_ble_eq_true rfl) ?_
    refine V_goto (tgt := 223) dX0_digest_244 (by decide) ?_
    exact J223c _ _ X3 hX3 hC.1 hF3 (by rw [← hR, e3, mx_e])
  have J223 : ∀ (a : Int64) (S X1 : xSt) (hX : XR S X1) (hMS : MI S) (hF1 : FRS X1) (hR : dtF4 a S = R), V l (yX0_digest.cls, cX0_digest, 4, (some .long), [], yX0_digest.name) (rmD 71 1802 12620, fA, Q, xX0) 223 [some (.ref 0), some (.long a), none, some (.int (-1))] [] (wX X1) 2 20 := by
    intro a S X1 hX hMS hF1 hR
    refine V_iload_n dX0_digest_223 rfl ?_
    refine V_iconst dX0_digest_224 li_1 ?_
    refine V_icmp_ge (tgt := 247) dX0_digest_225 (by decide) (fun c225 => absurd c225 (by decide +kernel)) (fun _ => ?_)
    refine V_ldc2 dX0_digest_228 q1144 ?_
    refine V_lload_n dX0_digest_231 rfl ?_
    refine V_lmul dX0_digest_232 ?_
    refine V_aload_n dX0_digest_233 rfl ?_
    refine V_iload_n dX0_digest_234 rfl ?_
    refine Vz_vI (k' := 2) (n' := 20) (x_hushBy l hX.1 (i := -1) (.inl rfl)) dX0_digest_235 (lw_V q932 q934 qs26 q95 q935) hv_X0_hushBy (by decide) (wX_obj _) cl_X0 rfl rfl (Nat.le_of_ble_eq_true rfl) fF_A (okl_c (ok_r (fF_ok (.inl (Nat.le_of_ble_eq_true rfl)))) (okl_c ok_l (okl_n (okl_c ok_i okl_0)))) (oks_c ok_l oks_0) ⟨by rw [(rc_0 hF1).1]; omega, by rw [(rc_0 hF1).2]; omega⟩ (fun x3 X3 h3 => ?_)
    obtain ⟨e3, h4, h5⟩ := h3
    refine V_i2l dX0_digest_238 rfl ?_
    refine V_ladd dX0_digest_239 ?_
    refine V_lstore_n dX0_digest_240 rfl (Nat.le_of_ble_eq_true rfl) (Nat.le_of_ble_eq_true rfl) ?_
    refine V_iinc dX0_digest_241 rfl rfl rfl (Nat.le_of_ble_eq_true rfl) ?_
    refine V_goto (tgt := 223) dX0_digest_244 (by decide) ?_
    rw [show (-1 : Int32) + Int32.ofInt 1 = nI 0 from by decide +kernel]
    exact J223b _ S X3 (XR_FV hX h4 h5) hMS (FRS_FV hF1 h5) (by rw [← hR, e3, mx_e]; unfold dtF4 dtF4b ofRowF; rw [if_pos (show (-1 : Int32) = -1 from rfl)])
  have L195 : ∀ (j : Nat) (i : Nat) (a : Int64) (S X1 : xSt) (hX : XR S X1) (hMS : MI S) (hF1 : FRS X1) (hij : i + j = 2) (hR : dtF4 (itQ fKp j i a S).1 (itQ fKp j i a S).2 = R), V l (yX0_digest.cls, cX0_digest, 4, (some .long), [], yX0_digest.name) (rmD 71 1802 12620, fA, Q, xX0) 195 [some (.ref 0), some (.long a), none, some (.int (nI i))] [] (wX X1) 2 20 := by
    intro j
    induction j with
    | zero =>
      intro i a S X1 hX hMS hF1 hij hR
      refine V_iload_n dX0_digest_195 rfl ?_
      refine V_iconst dX0_digest_196 li_2 ?_
      refine V_icmp_ge (tgt := 221) dX0_digest_197 (by decide) (fun _ => ?_) (fun c197 => absurd (nI_le (by omega) (by omega)) c197)
      refine V_iconst dX0_digest_221 li_m1 ?_
      refine V_istore_n dX0_digest_222 rfl (Nat.le_of_ble_eq_true rfl) (Nat.le_of_ble_eq_true rfl) ?_
      exact J223 a S X1 hX hMS hF1 (by rw [← hR, itQ_0])
    | succ j ih =>
      intro i a S X1 hX hMS hF1 hij hR
      refine V_iload_n dX0_digest_195 rfl ?_
      refine V_iconst dX0_digest_196 li_2 ?_
      refine V_icmp_ge (tgt := 221) dX0_digest_197 (by decide) (fun c197 => absurd c197 (nI_ge (by omega) (by omega))) (fun _ => ?_)
      refine V_ldc2 dX0_digest_200 q1144 ?_
      refine V_lload_n dX0_digest_203 rfl ?_
      refine V_lmul dX0_digest_204 ?_
      refine V_aload_n dX0_digest_205 rfl ?_
      refine V_bipush dX0_digest_206 lb_8 ?_
      refine V_iload_n dX0_digest_208 rfl ?_
      refine Vz_wI (k' := 2) (n' := 20) (x_keepOf l hX.1 (XR_10 hX) (day := 8) (what := nI i) (by decide)) dX0_digest_209 (lw_VW q915 q917 qs24 q95 q918) hv_X0_keepOf (by decide) (wX_obj _) cl_X0 rfl rfl (Nat.le_of_ble_eq_true rfl) fF_A (okl_c (ok_r (fF_ok (.inl (Nat.le_of_ble_eq_true rfl)))) (okl_c ok_l (okl_n (okl_c ok_i okl_0)))) (oks_c ok_l oks_0) ⟨by rw [(rc_0 hF1).1]; omega, by rw [(rc_0 hF1).2]; omega⟩ (fun x3 X3 h3 => ?_)
      obtain ⟨e3, h4, h5⟩ := h3
      have hC := CO_kb hMS (d := 8) (what := nI i)
      have hX3 := CO_XR (XR_FV hX h4 h5) hC
      have hF3 := FRS_FV hF1 h5
      refine V_i2l dX0_digest_212 rfl ?_
      refine V_ladd dX0_digest_213 ?_
      refine V_lstore_n dX0_digest_214 rfl (Nat.le_of_ble_eq_true rfl) (Nat.le_of_ble_eq_true rfl) ?_
      refine V_iinc dX0_digest_215 rfl (iinc_1 _) rfl (Nat.le_of_ble_eq_true rfl) ?_
      refine V_goto (tgt := 195) dX0_digest_218 (by decide) ?_
      exact ih (i + 1) _ _ X3 hX3 hC.1 hF3 (by omega) (by rw [← hR, itQ_s, e3, mx_e]; unfold fKp; dsimp only)
  have J169 : ∀ (a : Int64) (xx : Option Value) (hxx : xx = some (.int (nI 24))) (S X1 : xSt) (hX : XR S X1) (hMS : MI S) (hF1 : FRS X1) (hQ1 : RQ (RT S) X1) (hR : dtF0 a S = R), V l (yX0_digest.cls, cX0_digest, 4, (some .long), [], yX0_digest.name) (rmD 71 1802 12620, fA, Q, xX0) 169 [some (.ref 0), some (.long a), none, xx] [] (wX X1) 2 20 := by
    intro a xx hxx S X1 hX hMS hF1 hQ1 hR
    rw [hxx]
    have hM1 := (CO_RT hMS).1
    have q1 := RQ_co hQ1 hX hMS (CO_RT hMS)
    refine V_ldc2 dX0_digest_169 q1144 ?_
    refine V_lload_n dX0_digest_172 rfl ?_
    refine V_lmul dX0_digest_173 ?_
    refine V_aload_n dX0_digest_174 rfl ?_
    refine Vq_v (x_allSplits l hQ1) dX0_digest_175 (lw_V q881 q883 qs20 q95 q884) hv_X0_allSplits (by decide) (wX_obj _) cl_X0 rfl rfl (Nat.le_of_ble_eq_true rfl) ?_
    refine V_i2l dX0_digest_178 rfl ?_
    refine V_ladd dX0_digest_179 ?_
    refine V_lstore_n dX0_digest_180 rfl (Nat.le_of_ble_eq_true rfl) (Nat.le_of_ble_eq_true rfl) ?_
    show V l _ _ _ [_, _, _, _] _ _ _ _
    refine V_ldc2 dX0_digest_181 q1144 ?_
    refine V_lload_n dX0_digest_184 rfl ?_
    refine V_lmul dX0_digest_185 ?_
    refine V_aload_n dX0_digest_186 rfl ?_
    refine Vq_v (x_bestNow l q1.1) dX0_digest_187 (lw_V q889 q891 qs21 q95 q892) hv_X0_bestNow (by decide) (wX_obj _) cl_X0 rfl rfl (Nat.le_of_ble_eq_true rfl) ?_
    refine V_i2l dX0_digest_190 rfl ?_
    refine V_ladd dX0_digest_191 ?_
    refine V_lstore_n dX0_digest_192 rfl (Nat.le_of_ble_eq_true rfl) (Nat.le_of_ble_eq_true rfl) ?_
    show V l _ _ _ [_, _, _, _] _ _ _ _
    refine V_iconst dX0_digest_193 li_0 ?_
    refine V_istore_n dX0_digest_194 rfl (Nat.le_of_ble_eq_true rfl) (Nat.le_of_ble_eq_true rfl) ?_
    show V l _ _ _ [_, _, _, _] _ _ _ _
    refine L195 2 0 _ _ X1 (CO_XR q1.2 (CO_RT hM1)) (CO_RT hM1).1 hF1 rfl ?_
    rw [← hR, mx_e, mx_e]
    unfold dtF0 dtF1
    rw [dtF2_it]
  have L118 : ∀ (j : Nat) (d : Nat) (a : Int64) (S X1 : xSt) (hX : XR S X1) (hMS : MI S) (hF1 : FRS X1) (hQ1 : RQ (RT S) X1) (hij : d + j = 24) (hR : dtF0 (dgD j d a S).1 (dgD j d a S).2 = R), V l (yX0_digest.cls, cX0_digest, 4, (some .long), [], yX0_digest.name) (rmD 71 1802 12620, fA, Q, xX0) 118 [some (.ref 0), some (.long a), none, some (.int (nI d))] [] (wX X1) 2 20 := by
    intro j
    induction j with
    | zero =>
      intro d a S X1 hX hMS hF1 hQ1 hij hR
      refine V_iload_n dX0_digest_118 rfl ?_
      refine V_bipush dX0_digest_119 lb_24 ?_
      refine V_icmp_ge (tgt := 169) dX0_digest_121 (by decide) (fun _ => ?_) (fun c121 => absurd (nI_le (by omega) (by omega)) c121)
      exact J169 a _ (by rw [show d = 24 from by omega]) S X1 hX hMS hF1 hQ1 (by rw [← hR, dgD_0])
    | succ j ih =>
      intro d a S X1 hX hMS hF1 hQ1 hij hR
      have hM1 := (CO_RT hMS).1
      have hM2 := (CO_RT hM1).1
      have q1 := RQ_co hQ1 hX hMS (CO_RT hMS)
      have q2 := RQ_co q1.1 q1.2 hM1 (CO_RT hM1)
      have q3 := RQ_co q2.1 q2.2 hM2 (CO_RT hM2)
      refine V_iload_n dX0_digest_118 rfl ?_
      refine V_bipush dX0_digest_119 lb_24 ?_
      refine V_icmp_ge (tgt := 169) dX0_digest_121 (by decide) (fun c121 => absurd c121 (nI_ge (by omega) (by omega))) (fun _ => ?_)
      refine V_ldc2 dX0_digest_124 q1144 ?_
      refine V_lload_n dX0_digest_127 rfl ?_
      refine V_lmul dX0_digest_128 ?_
      refine V_aload_n dX0_digest_129 rfl ?_
      refine V_iload_n dX0_digest_130 rfl ?_
      refine Vq_v (x_neatBy l hQ1 (d := d) (by omega)) dX0_digest_131 (lw_V q857 q859 qs17 q95 q860) hv_X0_neatBy (by decide) (wX_obj _) cl_X0 rfl rfl (Nat.le_of_ble_eq_true rfl) ?_
      refine V_i2l dX0_digest_134 rfl ?_
      refine V_ladd dX0_digest_135 ?_
      refine V_lstore_n dX0_digest_136 rfl (Nat.le_of_ble_eq_true rfl) (Nat.le_of_ble_eq_true rfl) ?_
      show V l _ _ _ [_, _, _, _] _ _ _ _
      refine V_ldc2 dX0_digest_137 q1144 ?_
      refine V_lload_n dX0_digest_140 rfl ?_
      refine V_lmul dX0_digest_141 ?_
      refine V_aload_n dX0_digest_142 rfl ?_
      refine V_iload_n dX0_digest_143 rfl ?_
      refine Vq_v (x_nakedBy l q1.1 (d := d) (by omega)) dX0_digest_144 (lw_V q865 q867 qs18 q95 q868) hv_X0_nakedBy (by decide) (wX_obj _) cl_X0 rfl rfl (Nat.le_of_ble_eq_true rfl) ?_
      refine V_i2l dX0_digest_147 rfl ?_
      refine V_ladd dX0_digest_148 ?_
      refine V_lstore_n dX0_digest_149 rfl (Nat.le_of_ble_eq_true rfl) (Nat.le_of_ble_eq_true rfl) ?_
      show V l _ _ _ [_, _, _, _] _ _ _ _
      refine V_ldc2 dX0_digest_150 q1144 ?_
      refine V_lload_n dX0_digest_153 rfl ?_
      refine V_lmul dX0_digest_154 ?_
      refine V_aload_n dX0_digest_155 rfl ?_
      refine V_iload_n dX0_digest_156 rfl ?_
      refine Vq_v (x_longestBy l q2.1 (d := d) (by omega)) dX0_digest_157 (lw_V q873 q875 qs19 q95 q876) hv_X0_longestBy (by decide) (wX_obj _) cl_X0 rfl rfl (Nat.le_of_ble_eq_true rfl) ?_
      refine V_i2l dX0_digest_160 rfl ?_
      refine V_ladd dX0_digest_161 ?_
      refine V_lstore_n dX0_digest_162 rfl (Nat.le_of_ble_eq_true rfl) (Nat.le_of_ble_eq_true rfl) ?_
      show V l _ _ _ [_, _, _, _] _ _ _ _
      refine V_iinc dX0_digest_163 rfl (iinc_1 _) rfl (Nat.le_of_ble_eq_true rfl) ?_
      refine V_goto (tgt := 118) dX0_digest_166 (by decide) ?_
      exact ih (d + 1) _ _ X1 q3.2 (CO_RT hM2).1 hF1 q3.1 (by omega) (by rw [← hR, dgD_s, mx_e, mx_e, mx_e]; unfold ddF ddF1 ddF2; dsimp only)
  have J112 : ∀ (a : Int64) (xx : Option Value) (x : Int32) (hxx : xx = some (.int x)) (S X1 : xSt) (hX : XR S X1) (hMS : MI S) (hF1 : FRS X1) (hR : dg3 (a, S) = R), V l (yX0_digest.cls, cX0_digest, 4, (some .long), [], yX0_digest.name) (rmD 71 1802 12620, fA, Q, xX0) 112 [some (.ref 0), some (.long a), none, xx] [] (wX X1) 2 20 := by
    intro a xx x hxx S X1 hX hMS hF1 hR
    rw [hxx]
    refine V_aload_n dX0_digest_112 rfl ?_
    refine Vz_vV (k' := 2) (n' := 20) (x_find l hX.1.1) dX0_digest_113 (lw_V q789 q791 qs9 q95 q792) hv_X0_find (by decide) (wX_obj _) cl_X0 rfl rfl (Nat.le_of_ble_eq_true rfl) fF_A (okl_c (ok_r (fF_ok (.inl (Nat.le_of_ble_eq_true rfl)))) (okl_c ok_l (okl_n (okl_c ok_i okl_0)))) oks_0 ⟨by rw [(rc_0 hF1).1]; omega, by rw [(rc_0 hF1).2]; omega⟩ (fun X2 h2 => ?_)
    have hR1 := XR_find hX h2.1 h2.2.2
    have hQ2 : RQ (RT S) X2 := by unfold RT; exact RQ_of h2.1 h2.2.1
    refine V_iconst dX0_digest_116 li_0 ?_
    refine V_istore_n dX0_digest_117 rfl (Nat.le_of_ble_eq_true rfl) (Nat.le_of_ble_eq_true rfl) ?_
    refine L118 24 0 a S X2 hR1 hMS h2.1.2.1 hQ2 rfl ?_
    rw [← hR]
    unfold dg3 dg4
    rfl
  have L88 : ∀ (j : Nat) (p : Nat) (a : Int64) (S X1 : xSt) (hX : XR S X1) (hMS : MI S) (hF1 : FRS X1) (hE : SE S) (hij : p + j = 9) (hR : dg3 (dgK j p a S) = R), V l (yX0_digest.cls, cX0_digest, 4, (some .long), [], yX0_digest.name) (rmD 71 1802 12620, fA, Q, xX0) 88 [some (.ref 0), some (.long a), none, some (.int (nI p))] [] (wX X1) 2 20 := by
    intro j
    induction j with
    | zero =>
      intro p a S X1 hX hMS hF1 hE hij hR
      have es := (XR_sz hX hF1 hE).1
      obtain ⟨m, hm, em⟩ : bd (S 2 0) 8 := by rw [(SE_5 hE).2]; exact (PV_asTold hMS).1
      refine V_iload_n dX0_digest_88 rfl ?_
      refine V_aload_n dX0_digest_89 rfl ?_
      refine V_getf (i := 1) k_X0 dX0_digest_90 (by decide) q228 (wX_obj _) rfl ?_
      refine Vq_u (x_manyf0 l hF1.1 (hX.1.1.1.2.1 0 (by decide))) dX0_digest_93 (lw_U q658 q659 q661 q662 q96 q663) rfl hs_X1_many (by decide) (.inl ⟨_, _, _, _, (wX_tx0 _), cl_X2, rfl⟩) rfl (Nat.le_of_ble_eq_true rfl) ?_
      refine V_icmp_ge (tgt := 112) dX0_digest_96 (by decide) (fun _ => ?_) (fun c96 => absurd (by rw [es, em]; exact nI_le (by omega) (by omega)) c96)
      exact J112 a _ _ rfl S X1 hX hMS hF1 (by rw [← hR, dgK_0])
    | succ j ih =>
      intro p a S X1 hX hMS hF1 hE hij hR
      have es := (XR_sz hX hF1 hE).1
      obtain ⟨m, hm, em⟩ : bd (S 2 0) 8 := by rw [(SE_5 hE).2]; exact (PV_asTold hMS).1
      refine V_iload_n dX0_digest_88 rfl ?_
      refine V_aload_n dX0_digest_89 rfl ?_
      refine V_getf (i := 1) k_X0 dX0_digest_90 (by decide) q228 (wX_obj _) rfl ?_
      refine Vq_u (x_manyf0 l hF1.1 (hX.1.1.1.2.1 0 (by decide))) dX0_digest_93 (lw_U q658 q659 q661 q662 q96 q663) rfl hs_X1_many (by decide) (.inl ⟨_, _, _, _, (wX_tx0 _), cl_X2, rfl⟩) rfl (Nat.le_of_ble_eq_true rfl) ?_
      refine V_icmp_ge (tgt := 112) dX0_digest_96 (by decide) (fun c96 => ?_) (fun c96 => ?_)
      · exact J112 a _ _ rfl S X1 hX hMS hF1 (by rw [← hR, dgK_s, if_pos (by rw [← es]; exact c96)])
      · have c := c96
        rw [es] at c
        have hp : p < vN (S 2 0) := many_lt (show bd (S 2 0) 8 from ⟨m, hm, em⟩) (by decide) (by omega) c
        rw [(SE_5 hE).2] at hp
        have hm2 : p < 8 := by rw [← (SE_5 hE).2, em, vN_nI (by omega)] at hp; omega
        refine V_aload_n dX0_digest_99 rfl ?_
        refine V_lload_n dX0_digest_100 rfl ?_
        refine V_iload_n dX0_digest_101 rfl ?_
        refine Vz_vL (k' := 2) (n' := 20) (x_tellsPerson l hX hMS hF1 hE a (k := p) hp) dX0_digest_102 (lw_V q1150 q1152 qs41 q95 q1153) hv_X0_tellsPerson (by decide) (wX_obj _) cl_X0 rfl rfl (Nat.le_of_ble_eq_true rfl) fF_A (okl_c (ok_r (fF_ok (.inl (Nat.le_of_ble_eq_true rfl)))) (okl_c ok_l (okl_n (okl_c ok_i okl_0)))) oks_0 ⟨by rw [(rc_0 hF1).1]; omega, by rw [(rc_0 hF1).2]; omega⟩ (fun x3 X3 h3 => ?_)
        obtain ⟨e3, hX3, hF3⟩ := h3
        have hC := CO_ps p hm2 a hMS
        refine V_lstore_n dX0_digest_105 rfl (Nat.le_of_ble_eq_true rfl) (Nat.le_of_ble_eq_true rfl) ?_
        refine V_iinc dX0_digest_106 rfl (iinc_1 _) rfl (Nat.le_of_ble_eq_true rfl) ?_
        refine V_goto (tgt := 88) dX0_digest_109 (by decide) ?_
        exact ih (p + 1) _ _ X3 hX3 hC.1.1 hF3 hC.2 (by omega) (by rw [← hR, dgK_s, if_neg c, e3])
  have L62 : ∀ (j : Nat) (p : Nat) (a : Int64) (S X1 : xSt) (hX : XR S X1) (hMS : MI S) (hF1 : FRS X1) (hE : SE S) (hij : p + j = 11) (hR : dg2 (dgP j p a S) = R), V l (yX0_digest.cls, cX0_digest, 4, (some .long), [], yX0_digest.name) (rmD 71 1802 12620, fA, Q, xX0) 62 [some (.ref 0), some (.long a), none, some (.int (nI p))] [] (wX X1) 2 20 := by
    intro j
    induction j with
    | zero =>
      intro p a S X1 hX hMS hF1 hE hij hR
      have es := (XR_sz hX hF1 hE).2
      obtain ⟨m, hm, em⟩ : bd (S 5 0) 10 := by rw [(SE_5 hE).1]; exact (PV_asTold hMS).2.1
      refine V_iload_n dX0_digest_62 rfl ?_
      refine V_aload_n dX0_digest_63 rfl ?_
      refine V_getf (i := 2) k_X0 dX0_digest_64 (by decide) q229 (wX_obj _) rfl ?_
      refine Vq_u (x_manyf1 l hF1.2 (hX.1.1.1.2.1 1 (by decide))) dX0_digest_67 (lw_U q707 q708 q709 q662 q96 q663) rfl hs_X1_many (by decide) (.inl ⟨_, _, _, _, (wX_tx1 _), cl_X3, rfl⟩) rfl (Nat.le_of_ble_eq_true rfl) ?_
      refine V_icmp_ge (tgt := 86) dX0_digest_70 (by decide) (fun _ => ?_) (fun c70 => absurd (by rw [es, em]; exact nI_le (by omega) (by omega)) c70)
      refine V_iconst dX0_digest_86 li_0 ?_
      refine V_istore_n dX0_digest_87 rfl (Nat.le_of_ble_eq_true rfl) (Nat.le_of_ble_eq_true rfl) ?_
      exact L88 9 0 a S X1 hX hMS hF1 hE rfl (by rw [← hR, dgP_0]; unfold dg2; rfl)
    | succ j ih =>
      intro p a S X1 hX hMS hF1 hE hij hR
      have es := (XR_sz hX hF1 hE).2
      obtain ⟨m, hm, em⟩ : bd (S 5 0) 10 := by rw [(SE_5 hE).1]; exact (PV_asTold hMS).2.1
      refine V_iload_n dX0_digest_62 rfl ?_
      refine V_aload_n dX0_digest_63 rfl ?_
      refine V_getf (i := 2) k_X0 dX0_digest_64 (by decide) q229 (wX_obj _) rfl ?_
      refine Vq_u (x_manyf1 l hF1.2 (hX.1.1.1.2.1 1 (by decide))) dX0_digest_67 (lw_U q707 q708 q709 q662 q96 q663) rfl hs_X1_many (by decide) (.inl ⟨_, _, _, _, (wX_tx1 _), cl_X3, rfl⟩) rfl (Nat.le_of_ble_eq_true rfl) ?_
      refine V_icmp_ge (tgt := 86) dX0_digest_70 (by decide) (fun c70 => ?_) (fun c70 => ?_)
      · refine V_iconst dX0_digest_86 li_0 ?_
        refine V_istore_n dX0_digest_87 rfl (Nat.le_of_ble_eq_true rfl) (Nat.le_of_ble_eq_true rfl) ?_
        exact L88 9 0 a S X1 hX hMS hF1 hE rfl (by rw [← hR, dgP_s, if_pos (by rw [← es]; exact c70)]; unfold dg2; rfl)
      · have c := c70
        rw [es] at c
        have hp : p < vN (S 5 0) := many_lt (show bd (S 5 0) 10 from ⟨m, hm, em⟩) (by decide) (by omega) c
        rw [(SE_5 hE).1] at hp
        have hm2 : p < 10 := by rw [← (SE_5 hE).1, em, vN_nI (by omega)] at hp; omega
        refine V_aload_n dX0_digest_73 rfl ?_
        refine V_lload_n dX0_digest_74 rfl ?_
        refine V_iload_n dX0_digest_75 rfl ?_
        refine Vz_vL (k' := 2) (n' := 20) (x_tellsPromise l hX hMS hF1 hE a (p := p) hp) dX0_digest_76 (lw_V q1146 q1148 qs40 q95 q1149) hv_X0_tellsPromise (by decide) (wX_obj _) cl_X0 rfl rfl (Nat.le_of_ble_eq_true rfl) fF_A (okl_c (ok_r (fF_ok (.inl (Nat.le_of_ble_eq_true rfl)))) (okl_c ok_l (okl_n (okl_c ok_i okl_0)))) oks_0 ⟨by rw [(rc_0 hF1).1]; omega, by rw [(rc_0 hF1).2]; omega⟩ (fun x3 X3 h3 => ?_)
        obtain ⟨e3, hX3, hF3⟩ := h3
        have hC := CO_pd p a hMS
        refine V_lstore_n dX0_digest_79 rfl (Nat.le_of_ble_eq_true rfl) (Nat.le_of_ble_eq_true rfl) ?_
        refine V_iinc dX0_digest_80 rfl (iinc_1 _) rfl (Nat.le_of_ble_eq_true rfl) ?_
        refine V_goto (tgt := 62) dX0_digest_83 (by decide) ?_
        exact ih (p + 1) _ _ X3 hX3 hC.1.1 hF3 hC.2 (by omega) (by rw [← hR, dgP_s, if_neg c, e3])
  have J33c : ∀ (a : Int64) (S X1 : xSt) (hX : XR S X1) (hMS : MI S) (hF1 : FRS X1) (hE : SE S) (hR : dg1 (a, S) = R), V l (yX0_digest.cls, cX0_digest, 4, (some .long), [], yX0_digest.name) (rmD 71 1802 12620, fA, Q, xX0) 33 [some (.ref 0), some (.long a), none, some (.int (nI 2))] [] (wX X1) 2 20 := by
    intro a S X1 hX hMS hF1 hE hR
    refine V_iload_n dX0_digest_33 rfl ?_
    refine V_iconst dX0_digest_34 li_2 ?_
    refine V_icmp_ge (tgt := 60) dX0_digest_35 (by decide) (fun _ => ?_) (fun c35 => absurd (by decide +kernel) c35)
    refine V_iconst dX0_digest_60 li_0 ?_
    refine V_istore_n dX0_digest_61 rfl (Nat.le_of_ble_eq_true rfl) (Nat.le_of_ble_eq_true rfl) ?_
    exact L62 11 0 a S X1 hX hMS hF1 hE rfl (by rw [← hR]; unfold dg1; rfl)
  have J33b : ∀ (a : Int64) (S X1 : xSt) (hX : XR S X1) (hMS : MI S) (hf0 : X1 47 0 = nI 1) (hR : dg0b a S = R), V l (yX0_digest.cls, cX0_digest, 4, (some .long), [], yX0_digest.name) (rmD 71 1802 12620, fA, Q, xX0) 33 [some (.ref 0), some (.long a), none, some (.int (nI 1))] [] (wX X1) 102 720 := by
    intro a S X1 hX hMS hf0 hR
    refine V_iload_n dX0_digest_33 rfl ?_
    refine V_iconst dX0_digest_34 li_2 ?_
    refine V_icmp_ge (tgt := 60) dX0_digest_35 (by decide) (fun c35 => absurd c35 (by decide +kernel)) (fun _ => ?_)
    refine V_ldc2 dX0_digest_38 q1144 ?_
    refine V_lload_n dX0_digest_41 rfl ?_
    refine V_lmul dX0_digest_42 ?_
    refine V_aload_n dX0_digest_43 rfl ?_
    refine V_iload_n dX0_digest_44 rfl ?_
    refine Vq_v (x_text1 l X1) dX0_digest_45 (lw_V q311 q313 qs0 q95 q314) hv_X0_text (by decide) (wX_obj _) cl_X0 rfl rfl (Nat.le_of_ble_eq_true rfl) ?_
    refine Vz_uI (k' := 2) (n' := 20) (x_readT1 l hX.1.1) dX0_digest_48 (lw_U q345 q347 q348 q346 q96 q350) rfl hs_X1_read (by decide) (.inl ⟨_, _, _, _, (wX_tx1 _), cl_X3, rfl⟩) rfl (Nat.le_of_ble_eq_true rfl) (gF_A (by decide)) (okl_c (ok_r (gF_ok (by decide))) (okl_c ok_l (okl_n (okl_c ok_i okl_0)))) (oks_c ok_l oks_0) ⟨by have := rct_le 1 X1; omega, by have := rct_le 1 X1; omega⟩ (fun x3 X3 h3 => ?_)
    obtain ⟨e3, h4, h5, h6⟩ := h3
    have hX3 := CO_XR (XR_W1 hX h4 h6 h5) (CO_rd hMS)
    have hF3 : FRS X3 := ⟨(h6.2.1 47 0 (by decide) (by decide)).trans hf0, h5⟩
    refine V_i2l dX0_digest_51 rfl ?_
    refine V_ladd dX0_digest_52 ?_
    refine V_lstore_n dX0_digest_53 rfl (Nat.le_of_ble_eq_true rfl) (Nat.le_of_ble_eq_true rfl) ?_
    refine V_iinc dX0_digest_54 rfl (iinc_1 _) rfl (Nat.le_of_ble_eq_true rfl) ?_
    refine V_goto (tgt := 33) dX0_digest_57 (by decide) ?_
    exact J33c _ _ X3 hX3 (CO_rd hMS).1 hF3 (SE_rd hMS) (by rw [← hR, e3, pt1, mx_e]; unfold dg0b; rfl)
  have J33 : ∀ (a : Int64) (S X1 : xSt) (hX : XR S X1) (hMS : MI S) (hR : dg0 (a, S) = R), V l (yX0_digest.cls, cX0_digest, 4, (some .long), [], yX0_digest.name) (rmD 71 1802 12620, fA, Q, xX0) 33 [some (.ref 0), some (.long a), none, some (.int (nI 0))] [] (wX X1) 202 1420 := by
    intro a S X1 hX hMS hR
    refine V_iload_n dX0_digest_33 rfl ?_
    refine V_iconst dX0_digest_34 li_2 ?_
    refine V_icmp_ge (tgt := 60) dX0_digest_35 (by decide) (fun c35 => absurd c35 (by decide +kernel)) (fun _ => ?_)
    refine V_ldc2 dX0_digest_38 q1144 ?_
    refine V_lload_n dX0_digest_41 rfl ?_
    refine V_lmul dX0_digest_42 ?_
    refine V_aload_n dX0_digest_43 rfl ?_
    refine V_iload_n dX0_digest_44 rfl ?_
    refine Vq_v (x_text0 l X1) dX0_digest_45 (lw_V q311 q313 qs0 q95 q314) hv_X0_text (by decide) (wX_obj _) cl_X0 rfl rfl (Nat.le_of_ble_eq_true rfl) ?_
    refine Vz_uI (k' := 102) (n' := 720) (x_readT0 l hX.1.1) dX0_digest_48 (lw_U q345 q347 q349 q346 q96 q350) rfl hs_X1_read (by decide) (.inl ⟨_, _, _, _, (wX_tx0 _), cl_X2, rfl⟩) rfl (Nat.le_of_ble_eq_true rfl) (gF_A (by decide)) (okl_c (ok_r (gF_ok (by decide))) (okl_c ok_l (okl_n (okl_c ok_i okl_0)))) (oks_c ok_l oks_0) ⟨by have := rct_le 0 X1; omega, by have := rct_le 0 X1; omega⟩ (fun x3 X3 h3 => ?_)
    obtain ⟨e3, h4, h5, h6⟩ := h3
    have hX3 := CO_XR (XR_W0 hX h4 h6 h5) (CO_rd hMS)
    refine V_i2l dX0_digest_51 rfl ?_
    refine V_ladd dX0_digest_52 ?_
    refine V_lstore_n dX0_digest_53 rfl (Nat.le_of_ble_eq_true rfl) (Nat.le_of_ble_eq_true rfl) ?_
    refine V_iinc dX0_digest_54 rfl (iinc_1 _) rfl (Nat.le_of_ble_eq_true rfl) ?_
    refine V_goto (tgt := 33) dX0_digest_57 (by decide) ?_
    exact J33b _ _ X3 hX3 (CO_rd hMS).1 h5 (by rw [← hR, e3, pt0, mx_e]; unfold dg0; rfl)
  have L6 : ∀ (j : Nat) (i : Nat) (a : Int64) (S X1 : xSt) (hX : XR S X1) (hMS : MI S) (hij : i + j = 8) (hR : dg0 (dgC j i a S) = R), V l (yX0_digest.cls, cX0_digest, 4, (some .long), [], yX0_digest.name) (rmD 71 1802 12620, fA, Q, xX0) 6 [some (.ref 0), some (.long a), none, some (.int (nI i))] [] (wX X1) (200 * j + 202) (1400 * j + 1420) := by
    intro j
    induction j with
    | zero =>
      intro i a S X1 hX hMS hij hR
      refine V_iload_n dX0_digest_6 rfl ?_
      refine V_bipush dX0_digest_7 lb_8 ?_
      refine V_icmp_ge (tgt := 31) dX0_digest_9 (by decide) (fun _ => ?_) (fun c9 => absurd (nI_le (by omega) (by omega)) c9)
      refine V_iconst dX0_digest_31 li_0 ?_
      refine V_istore_n dX0_digest_32 rfl (Nat.le_of_ble_eq_true rfl) (Nat.le_of_ble_eq_true rfl) ?_
      exact J33 a S X1 hX hMS (by rw [← hR, dgC_0])
    | succ j ih =>
      intro i a S X1 hX hMS hij hR
      refine V_iload_n dX0_digest_6 rfl ?_
      refine V_bipush dX0_digest_7 lb_8 ?_
      refine V_icmp_ge (tgt := 31) dX0_digest_9 (by decide) (fun c9 => absurd c9 (nI_ge (by omega) (by omega))) (fun _ => ?_)
      refine V_ldc2 dX0_digest_12 q1144 ?_
      refine V_lload_n dX0_digest_15 rfl ?_
      refine V_lmul dX0_digest_16 ?_
      refine V_aload_n dX0_digest_17 rfl ?_
      refine V_iload_n dX0_digest_18 rfl ?_
      refine Vz_vI (k' := 200 * j + 202) (n' := 1400 * j + 1420) (x_count l hX hMS (nI i)) dX0_digest_19 (lw_V q1145 q1129 q1130 q95 q1131) hv_X0_count (by decide) (wX_obj _) cl_X0 rfl rfl (Nat.le_of_ble_eq_true rfl) fF_A (okl_c (ok_r (fF_ok (.inl (Nat.le_of_ble_eq_true rfl)))) (okl_c ok_l (okl_n (okl_c ok_i okl_0)))) (oks_c ok_l oks_0) ⟨by have := rc_le X1; omega, by have := rc_le X1; omega⟩ (fun x3 X3 h3 => ?_)
      obtain ⟨e3, h4⟩ := h3
      have hC := CO_count hMS (nI i)
      have hX3 := CO_XR h4 hC
      refine V_i2l dX0_digest_22 rfl ?_
      refine V_ladd dX0_digest_23 ?_
      refine V_lstore_n dX0_digest_24 rfl (Nat.le_of_ble_eq_true rfl) (Nat.le_of_ble_eq_true rfl) ?_
      refine V_iinc dX0_digest_25 rfl (iinc_1 _) rfl (Nat.le_of_ble_eq_true rfl) ?_
      refine V_goto (tgt := 6) dX0_digest_28 (by decide) ?_
      exact ih (i + 1) _ _ X3 hX3 hC.1 (by omega) (by rw [← hR, dgC_s, e3, mx_e])
  refine V_ldc2 dX0_digest_0 q1143 ?_
  refine V_lstore_n dX0_digest_3 rfl (Nat.le_of_ble_eq_true rfl) (Nat.le_of_ble_eq_true rfl) ?_
  refine V_iconst dX0_digest_4 li_0 ?_
  refine V_istore_n dX0_digest_5 rfl (Nat.le_of_ble_eq_true rfl) (Nat.le_of_ble_eq_true rfl) ?_
  exact L6 8 0 17 G X h0 hM rfl (by rw [← hRR]; unfold digestF; rfl)
