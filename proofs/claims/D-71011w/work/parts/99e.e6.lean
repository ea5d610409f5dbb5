/-! the law: calls of both sides -/
set_option maxRecDepth 100000
set_option maxHeartbeats 400000
def fL (n : Nat) : Prop := n < 900 ∨ 999 < n
theorem fB_L : ∀ n, fB n → fL n := fun n h => by unfold fB fA at h; unfold fL; omega
theorem xok_mo {F E : Nat → Prop} (h : ∀ n, F n → E n) {v : Value} (g : xok E v) : xok F v := fun n e z => g n e (h n z)
abbrev ML : xM := ("PromiseTailorLaw", cL_law, 4, some .boolean, [], "law")
def INV (G X : xSt) : Prop := MI G ∧ FI G ∧ XR G X
theorem INV_q {G G' X X' : xSt} (h : INV G X) (hx : XR G X') (c : CO G G') : INV G' X' := ⟨c.1, K4_FI (CO_K4 c) h.2.1, CO_XR hx c⟩
theorem INV_k {G G' X X' : xSt} (h : INV G X) (hx : XR G' X') (m : MI G') (k : K4 G G') : INV G' X' := ⟨m, K4_FI k h.2.1, hx⟩
section VLS
variable {l : Launch} {M : xM} {pc : Nat} {ls : List (Option Value)} {st stk : List Value} {X S : xSt} {L : Nat} {xs : Nat → Int32} {k n k' n' : Nat} {y : MethodName} {cc : ByteArray} {nL : Nat} {ret : Option FieldType} {hh : List (Nat × Nat × Nat × Nat)} {d c s index : Nat} {F : Nat → Prop} {As : List Value} {Q : Option Value → xW → Prop}
theorem V_sc {i : Int32} {j : Nat} (hd : decode M.2.1 pc = .ok (.iaload, 1)) (hi : i = nI j) (hj : j < L) (hL : L ≤ 384) (kk : V l M (room_1, fL, Q, xX0) (pc + 1) ls (.int (xs j) :: st) (wL X S L xs) k n) : V l M (room_1, fL, Q, xX0) pc ls (.int i :: .ref 990 :: st) (wL X S L xs) k n := by
  rw [hi]
  exact V_iald hd (show wL X S L xs 990 = _ from if_pos rfl) (vp_in_nI hj (by omega)) (by rw [nI_clamp (by omega)]) kk
theorem xfit_L {Q1 Q0 : Option Value → xW → Prop} {F0 F : Nat → Prop} {X1 X0 : String → Nat → xW → Prop} (hR : d ≤ 80 ∧ nL ≤ 80) (hk : c + k' ≤ k ∧ s + n' ≤ n) : xfit (room_1, F0, Q0, X0) (rmD d c s, F, Q1, X1) nL k n k' n' := by
  refine ⟨⟨?_, ?_⟩, hk⟩
  · show 20 + d + 1 ≤ 8192
    omega
  · show 8 + (nL + 11) + (20000 + 100 * d) ≤ 104096
    omega

theorem VL_xI {P : Int32 → xSt → Prop} (hM : Cz l y (ws_ y cc nL ret) d c s F (.ref 0 :: As) X (fun r X' => ∃ x, r = some (.int x) ∧ P x X')) (hF : ∀ n, F n → fB n) (hd : decode M.2.1 pc = .ok (.invokevirtual index, 3)) (hG : GoodIn lw_all (wsV M.1 index RX0 y (ws_ y cc nL ret)))
    (hy : y.cls = RX0 ∧ y.cls ≠ "java/lang/invoke/MethodHandle" ∧ y.cls ≠ "java/lang/invoke/VarHandle" ∧ (parseMethodDescriptor y.desc).map (fun d => d.parameters.length) = some As.length) (hR : d ≤ 80 ∧ nL ≤ 80) (hst : stk = As.reverse ++ .ref 0 :: st) (hcat : (st.map fun v => v.category).sum ≤ 8) (hfl : ∀ v, some v ∈ ls → xok fB v) (hfs : ∀ v ∈ st, xok fB v) (hk : c + k' ≤ k ∧ s + n' ≤ n)
    (kk : ∀ (r : Int32) (X' : xSt), P r X' → V l M (room_1, fL, Q, xX0) (pc + 3) ls (.int r :: st) (wL X' S L xs) k' n') : V l M (room_1, fL, Q, xX0) pc ls stk (wL X S L xs) k n :=
  V_callV (FX hM hF) hd hG hy (xfit_L hR hk) ((wL_X (.inl (by decide))).trans (wX_obj X)) cl_X0 rfl hst hcat (fun n z => fB_L n (hF n z)) (fun v hv => xok_mo hF (hfl v hv)) (fun v hv => xok_mo hF (hfs v hv)) (fun r w' h => by obtain ⟨X', rfl, x, rfl, hP⟩ := h; exact kk x X' hP) (fun _ _ _ h => h.elim)
theorem VL_xIW {P : Int32 → xSt → Prop} (hM : Cz l y (wsW_ y cc nL ret hh) d c s F (.ref 0 :: As) X (fun r X' => ∃ x, r = some (.int x) ∧ P x X')) (hF : ∀ n, F n → fB n) (hd : decode M.2.1 pc = .ok (.invokevirtual index, 3)) (hG : GoodIn lw_all (wsV M.1 index RX0 y (wsW_ y cc nL ret hh)))
    (hy : y.cls = RX0 ∧ y.cls ≠ "java/lang/invoke/MethodHandle" ∧ y.cls ≠ "java/lang/invoke/VarHandle" ∧ (parseMethodDescriptor y.desc).map (fun d => d.parameters.length) = some As.length) (hR : d ≤ 80 ∧ nL ≤ 80) (hst : stk = As.reverse ++ .ref 0 :: st) (hcat : (st.map fun v => v.category).sum ≤ 8) (hfl : ∀ v, some v ∈ ls → xok fB v) (hfs : ∀ v ∈ st, xok fB v) (hk : c + k' ≤ k ∧ s + n' ≤ n)
    (kk : ∀ (r : Int32) (X' : xSt), P r X' → V l M (room_1, fL, Q, xX0) (pc + 3) ls (.int r :: st) (wL X' S L xs) k' n') : V l M (room_1, fL, Q, xX0) pc ls stk (wL X S L xs) k n :=
  V_callVW (FX hM hF) hd hG hy (xfit_L hR hk) ((wL_X (.inl (by decide))).trans (wX_obj X)) cl_X0 rfl hst hcat (fun n z => fB_L n (hF n z)) (fun v hv => xok_mo hF (hfl v hv)) (fun v hv => xok_mo hF (hfs v hv)) (fun r w' h => by obtain ⟨X', rfl, x, rfl, hP⟩ := h; exact kk x X' hP) (fun _ _ _ h => h.elim)
theorem VL_mI {P : Int32 → xSt → Prop} (hM : Cm l y cc nL ret d As S (fun r S' => ∃ x, r = some (.int x) ∧ P x S')) (hd : decode M.2.1 pc = .ok (.invokevirtual index, 3)) (hG : GoodIn lw_all (wsV M.1 index RX5 y (ws_ y cc nL ret)))
    (hy : y.cls = RX5 ∧ y.cls ≠ "java/lang/invoke/MethodHandle" ∧ y.cls ≠ "java/lang/invoke/VarHandle" ∧ (parseMethodDescriptor y.desc).map (fun d => d.parameters.length) = some As.length) (hR : d ≤ 80 ∧ nL ≤ 80) (hst : stk = As.reverse ++ .ref 1000 :: st) (hcat : (st.map fun v => v.category).sum ≤ 8)
    (kk : ∀ (r : Int32) (S' : xSt), P r S' → V l M (room_1, fL, Q, xX0) (pc + 3) ls (.int r :: st) (wL X S' L xs) k n) : V l M (room_1, fL, Q, xX0) pc ls stk (wL X S L xs) k n :=
  V_callV (FM hM) hd hG hy (xfit_L hR ⟨Nat.le_of_eq (Nat.zero_add _), Nat.le_of_eq (Nat.zero_add _)⟩) ((wL_M ⟨by decide, by decide⟩).trans (mW_obj S)) cl_X5 rfl hst hcat (fun n z => z.elim) (fun _ _ => xok0) (fun _ _ => xok0) (fun r w' h => by obtain ⟨X', rfl, x, rfl, hP⟩ := h; exact kk x X' hP) (fun _ _ _ h => h.elim)
theorem VL_xL {P : Int64 → xSt → Prop} (hM : Cz l y (ws_ y cc nL ret) d c s F (.ref 0 :: As) X (fun r X' => ∃ x, r = some (.long x) ∧ P x X')) (hF : ∀ n, F n → fB n) (hd : decode M.2.1 pc = .ok (.invokevirtual index, 3)) (hG : GoodIn lw_all (wsV M.1 index RX0 y (ws_ y cc nL ret)))
    (hy : y.cls = RX0 ∧ y.cls ≠ "java/lang/invoke/MethodHandle" ∧ y.cls ≠ "java/lang/invoke/VarHandle" ∧ (parseMethodDescriptor y.desc).map (fun d => d.parameters.length) = some As.length) (hR : d ≤ 80 ∧ nL ≤ 80) (hst : stk = As.reverse ++ .ref 0 :: st) (hcat : (st.map fun v => v.category).sum ≤ 8) (hfl : ∀ v, some v ∈ ls → xok fB v) (hfs : ∀ v ∈ st, xok fB v) (hk : c + k' ≤ k ∧ s + n' ≤ n)
    (kk : ∀ (r : Int64) (X' : xSt), P r X' → V l M (room_1, fL, Q, xX0) (pc + 3) ls (.long r :: st) (wL X' S L xs) k' n') : V l M (room_1, fL, Q, xX0) pc ls stk (wL X S L xs) k n :=
  V_callV (FX hM hF) hd hG hy (xfit_L hR hk) ((wL_X (.inl (by decide))).trans (wX_obj X)) cl_X0 rfl hst hcat (fun n z => fB_L n (hF n z)) (fun v hv => xok_mo hF (hfl v hv)) (fun v hv => xok_mo hF (hfs v hv)) (fun r w' h => by obtain ⟨X', rfl, x, rfl, hP⟩ := h; exact kk x X' hP) (fun _ _ _ h => h.elim)
theorem VL_xLW {P : Int64 → xSt → Prop} (hM : Cz l y (wsW_ y cc nL ret hh) d c s F (.ref 0 :: As) X (fun r X' => ∃ x, r = some (.long x) ∧ P x X')) (hF : ∀ n, F n → fB n) (hd : decode M.2.1 pc = .ok (.invokevirtual index, 3)) (hG : GoodIn lw_all (wsV M.1 index RX0 y (wsW_ y cc nL ret hh)))
    (hy : y.cls = RX0 ∧ y.cls ≠ "java/lang/invoke/MethodHandle" ∧ y.cls ≠ "java/lang/invoke/VarHandle" ∧ (parseMethodDescriptor y.desc).map (fun d => d.parameters.length) = some As.length) (hR : d ≤ 80 ∧ nL ≤ 80) (hst : stk = As.reverse ++ .ref 0 :: st) (hcat : (st.map fun v => v.category).sum ≤ 8) (hfl : ∀ v, some v ∈ ls → xok fB v) (hfs : ∀ v ∈ st, xok fB v) (hk : c + k' ≤ k ∧ s + n' ≤ n)
    (kk : ∀ (r : Int64) (X' : xSt), P r X' → V l M (room_1, fL, Q, xX0) (pc + 3) ls (.long r :: st) (wL X' S L xs) k' n') : V l M (room_1, fL, Q, xX0) pc ls stk (wL X S L xs) k n :=
  V_callVW (FX hM hF) hd hG hy (xfit_L hR hk) ((wL_X (.inl (by decide))).trans (wX_obj X)) cl_X0 rfl hst hcat (fun n z => fB_L n (hF n z)) (fun v hv => xok_mo hF (hfl v hv)) (fun v hv => xok_mo hF (hfs v hv)) (fun r w' h => by obtain ⟨X', rfl, x, rfl, hP⟩ := h; exact kk x X' hP) (fun _ _ _ h => h.elim)
theorem VL_mL {P : Int64 → xSt → Prop} (hM : Cm l y cc nL ret d As S (fun r S' => ∃ x, r = some (.long x) ∧ P x S')) (hd : decode M.2.1 pc = .ok (.invokevirtual index, 3)) (hG : GoodIn lw_all (wsV M.1 index RX5 y (ws_ y cc nL ret)))
    (hy : y.cls = RX5 ∧ y.cls ≠ "java/lang/invoke/MethodHandle" ∧ y.cls ≠ "java/lang/invoke/VarHandle" ∧ (parseMethodDescriptor y.desc).map (fun d => d.parameters.length) = some As.length) (hR : d ≤ 80 ∧ nL ≤ 80) (hst : stk = As.reverse ++ .ref 1000 :: st) (hcat : (st.map fun v => v.category).sum ≤ 8)
    (kk : ∀ (r : Int64) (S' : xSt), P r S' → V l M (room_1, fL, Q, xX0) (pc + 3) ls (.long r :: st) (wL X S' L xs) k n) : V l M (room_1, fL, Q, xX0) pc ls stk (wL X S L xs) k n :=
  V_callV (FM hM) hd hG hy (xfit_L hR ⟨Nat.le_of_eq (Nat.zero_add _), Nat.le_of_eq (Nat.zero_add _)⟩) ((wL_M ⟨by decide, by decide⟩).trans (mW_obj S)) cl_X5 rfl hst hcat (fun n z => z.elim) (fun _ _ => xok0) (fun _ _ => xok0) (fun r w' h => by obtain ⟨X', rfl, x, rfl, hP⟩ := h; exact kk x X' hP) (fun _ _ _ h => h.elim)
end VLS
theorem okB {b : Nat} (h : ¬ fB b) : xok fB (.ref b) := ok_r h
theorem aF_B {q : Nat} (hq : q < 6) : ∀ n, aF q n → fB n := fun n h => by unfold aF at h; unfold fB fA; omega
theorem F36_B : ∀ n, F36 n → fB n := fun n h => by unfold F36 at h; unfold fB fA; omega
theorem sG_B : ∀ n, sG n → fB n := fun n h => by unfold sG at h; unfold fB fA; omega
theorem fF_B {X : xSt} : ∀ n, fF X n → fB n := fun n h => .inl (fF_A n h)
theorem fG_B {X : xSt} : ∀ n, fG X n → fB n := fun n h => .inl (fG_A n h)
theorem fA_B : ∀ n, fA n → fB n := fun n h => .inl h
theorem x0_B : ∀ n, xF0 n → fB n := fun n h => h.elim
theorem lg_cmp_self (a : Int64) : lg_cmp a a = 0 := by
  unfold lg_cmp
  simp
theorem CO_dgC : ∀ j i h (S : xSt), MI S → CO S (dgC j i h S).2
  | 0, _, _, _, h => CO_rf h
  | j + 1, i, h, S, hS => by
    rw [dgC_s]
    exact CO_tr (CO_count hS _) (CO_dgC j _ _ _ (CO_count hS _).1)
theorem CO_dgP : ∀ j p h (S : xSt), MI S → CO S (dgP j p h S).2
  | 0, _, _, _, h => CO_rf h
  | j + 1, p, h, S, hS => by
    rw [dgP_s]
    by_cases c : S 5 0 ≤ nI p
    · rw [if_pos c]; exact CO_rf hS
    · rw [if_neg c]; exact CO_tr (CO_pd p h hS).1 (CO_dgP j _ _ _ (CO_pd p h hS).1.1)
theorem SE_dgP : ∀ j p h (S : xSt), MI S → SE S → SE (dgP j p h S).2
  | 0, _, _, _, _, e => e
  | j + 1, p, h, S, hS, e => by
    rw [dgP_s]
    by_cases c : S 5 0 ≤ nI p
    · rw [if_pos c]; exact e
    · rw [if_neg c]; exact SE_dgP j _ _ _ (CO_pd p h hS).1.1 (CO_pd p h hS).2
theorem CO_dgK : ∀ j p h (S : xSt), p + j ≤ 9 → bd (S 2 0) 8 → MI S → SE S → CO S (dgK j p h S).2
  | 0, _, _, _, _, _, h, _ => CO_rf h
  | j + 1, p, h, S, hj, hb, hS, hE => by
    rw [dgK_s]
    by_cases c : S 2 0 ≤ nI p
    · rw [if_pos c]; exact CO_rf hS
    · rw [if_neg c]
      have hp : p < 8 := by
        obtain ⟨m, hm, e⟩ := hb
        rw [e] at c
        exact Nat.lt_of_lt_of_le (Nat.lt_of_not_le fun z => c (nI_le z (by omega))) hm
      have z := CO_ps p hp h hS
      refine CO_tr z.1 (CO_dgK j _ _ _ (by omega) ?_ z.1.1 z.2)
      rw [(SE_5 z.2).2]
      exact (PV_asTold z.1.1).1
theorem CO_dgD : ∀ j d h (S : xSt), MI S → CO S (dgD j d h S).2
  | 0, _, _, _, h => CO_rf h
  | j + 1, d, h, S, hS => by
    rw [dgD_s]
    have z : CO S (ddF d h S).2 := by
      unfold ddF ddF1 ddF2
      dsimp only
      have c1 := CO_RT hS
      have c2 := CO_RT c1.1
      exact CO_tr c1 (CO_tr c2 (CO_RT c2.1))
    exact CO_tr z (CO_dgD j _ _ _ z.1)
theorem CO_dt (h : Int64) {S : xSt} (hS : MI S) : CO S (dtF0 h S).2 := by
  unfold dtF0 dtF1
  rw [dtF2_it]
  have c1 := CO_RT hS
  have c2 := CO_RT c1.1
  have c3 := CO_it (f := fKp) (fun i h S hS => by unfold fKp; dsimp only; exact CO_kb hS) 2 0 (mx (mx h (tearsF (RT S))) (bestF (RT (RT S)))) (RT (RT S)) c2.1
  generalize itQ fKp 2 0 (mx (mx h (tearsF (RT S))) (bestF (RT (RT S)))) (RT (RT S)) = q at c3 ⊢
  unfold dtF4
  have c4 := CO_hu c3.1
  unfold dtF4b dtF5
  have c5 := CO_nv c4.1
  rw [dtF6_it]
  exact CO_tr c1 (CO_tr c2 (CO_tr c3 (CO_tr c4 (CO_tr c5 (CO_it (f := fYr) (fun i h S hS => by unfold fYr; dsimp only; exact CO_yr hS (by decide)) 2 0 _ _ c5.1)))))
theorem CO_dg {G : xSt} (h : MI G) : CO G (digestF G).2 := by
  have c1 := CO_dgC 8 0 17 G h
  unfold digestF
  generalize dgC 8 0 17 G = q at c1 ⊢
  unfold dg0 dg0b dg1
  have c2 := CO_rd c1.1
  have c3 := CO_rd c2.1
  have s3 := SE_rd c2.1
  have c4 := CO_dgP 11 0 (mx (mx q.1 (partsF0 q.2).1) (partsF1 (partsF0 (readsF q.2)).2).1) _ c3.1
  have s4 := SE_dgP 11 0 (mx (mx q.1 (partsF0 q.2).1) (partsF1 (partsF0 (readsF q.2)).2).1) _ c3.1 s3
  dsimp only
  generalize dgP 11 0 (mx (mx q.1 (partsF0 q.2).1) (partsF1 (partsF0 (readsF q.2)).2).1) (readsF (readsF q.2)) = q2 at c4 s4 ⊢
  unfold dg2
  have c5 := CO_dgK 9 0 q2.1 q2.2 (by omega) (by rw [(SE_5 s4).2]; exact (PV_asTold c4.1).1) c4.1 s4
  generalize dgK 9 0 q2.1 q2.2 = q3 at c5 ⊢
  unfold dg3
  have c6 := CO_dgD 24 0 q3.1 q3.2 c5.1
  generalize dgD 24 0 q3.1 q3.2 = q4 at c6 ⊢
  unfold dg4
  exact CO_tr c1 (CO_tr c2 (CO_tr c3 (CO_tr c4 (CO_tr c5 (CO_tr c6 (CO_dt q4.1 c6.1))))))
set_option maxHeartbeats 400000 in
theorem law_0 (l : Launch) (hl : l.stackTraces = false) {Q : Option Value → xW → Prop} {G X : xSt} {L i : Nat} {xs : Nat → Int32} (h : INV G X) (hi : i + 6 ≤ L) (hL : L ≤ 384) {k n : Nat} (kk : ∀ G' X', INV G' X' → V l ML (room_1, fL, Q, xX0) 1339 [some (.ref 990), some (.ref 0), some (.ref 1000), some (.int (nI i))] [] (wL X' G' L xs) k n) : V l ML (room_1, fL, Q, xX0) 196 [some (.ref 990), some (.ref 0), some (.ref 1000), some (.int (nI i))] [] (wL X G L xs) (1802 + k) (12620 + n) := by
  refine V_aload_n dL_law_196 rfl ?_
  refine V_aload_n dL_law_197 rfl ?_
  refine V_iload_n dL_law_198 rfl ?_
  refine V_iconst dL_law_199 li_1 ?_
  refine V_iaddN dL_law_200 ?_
  refine V_sc dL_law_201 rfl (by omega) hL ?_
  refine V_aload_n dL_law_202 rfl ?_
  refine V_iload_n dL_law_203 rfl ?_
  refine V_iconst dL_law_204 li_2 ?_
  refine V_iaddN dL_law_205 ?_
  refine V_sc dL_law_206 rfl (by omega) hL ?_
  refine VL_xI (k' := k) (n' := n) (x_type l h.2.2 h.1 (xs (i + 1)) (xs (i + 2))) x0_B dL_law_207 (lw_V q300 q301 q302 q95 q303) hv_X0_type (by decide) rfl (Nat.le_of_ble_eq_true rfl) (okl_c (ok_r (by unfold fB fA; decide)) (okl_c (ok_r (by unfold fB fA; decide)) (okl_c (ok_r (by unfold fB fA; decide)) (okl_c ok_i okl_0)))) oks_0 ⟨by omega, by omega⟩ (fun r1 X1 h2 => ?_)
  obtain ⟨e1, h1⟩ := h2
  refine V_aload_n dL_law_210 rfl ?_
  refine V_aload_n dL_law_211 rfl ?_
  refine V_iload_n dL_law_212 rfl ?_
  refine V_iconst dL_law_213 li_1 ?_
  refine V_iaddN dL_law_214 ?_
  refine V_sc dL_law_215 rfl (by omega) hL ?_
  refine V_aload_n dL_law_216 rfl ?_
  refine V_iload_n dL_law_217 rfl ?_
  refine V_iconst dL_law_218 li_2 ?_
  refine V_iaddN dL_law_219 ?_
  refine V_sc dL_law_220 rfl (by omega) hL ?_
  refine VL_mI (m_type l G (xs (i + 1)) (xs (i + 2)) h.1.1) dL_law_221 (lw_V q1301 q1302 q1303 q103 q1304) hv_X5_type (by decide) rfl (Nat.le_of_ble_eq_true rfl) (fun r2 G1 h3 => ?_)
  obtain ⟨e2, e3⟩ := h3
  rw [e3]
  exact V_icmp_eq (tgt := 1339) dL_law_224 (by decide) (fun _ => kk _ X1 (INV_k h h1 (MI_type h.1 (xs (i + 1)) (xs (i + 2))) (k_type (xs (i + 1)) (xs (i + 2))))) (fun z => absurd (e1.trans e2.symm) z)
set_option maxHeartbeats 400000 in
theorem law_1 (l : Launch) (hl : l.stackTraces = false) {Q : Option Value → xW → Prop} {G X : xSt} {L i : Nat} {xs : Nat → Int32} (h : INV G X) (hi : i + 6 ≤ L) (hL : L ≤ 384) {k n : Nat} (kk : ∀ G' X', INV G' X' → V l ML (room_1, fL, Q, xX0) 1339 [some (.ref 990), some (.ref 0), some (.ref 1000), some (.int (nI i))] [] (wL X' G' L xs) k n) : V l ML (room_1, fL, Q, xX0) 229 [some (.ref 990), some (.ref 0), some (.ref 1000), some (.int (nI i))] [] (wL X G L xs) (1802 + k) (12620 + n) := by
  refine V_aload_n dL_law_229 rfl ?_
  refine V_aload_n dL_law_230 rfl ?_
  refine V_iload_n dL_law_231 rfl ?_
  refine V_iconst dL_law_232 li_1 ?_
  refine V_iaddN dL_law_233 ?_
  refine V_sc dL_law_234 rfl (by omega) hL ?_
  refine VL_xI (k' := k) (n' := n) (x_wipe l h.2.2 h.1 (xs (i + 1))) x0_B dL_law_235 (lw_V q321 q322 q323 q95 q324) hv_X0_wipe (by decide) rfl (Nat.le_of_ble_eq_true rfl) (okl_c (ok_r (by unfold fB fA; decide)) (okl_c (ok_r (by unfold fB fA; decide)) (okl_c (ok_r (by unfold fB fA; decide)) (okl_c ok_i okl_0)))) oks_0 ⟨by omega, by omega⟩ (fun r1 X1 h2 => ?_)
  obtain ⟨e1, h1⟩ := h2
  refine V_aload_n dL_law_238 rfl ?_
  refine V_aload_n dL_law_239 rfl ?_
  refine V_iload_n dL_law_240 rfl ?_
  refine V_iconst dL_law_241 li_1 ?_
  refine V_iaddN dL_law_242 ?_
  refine V_sc dL_law_243 rfl (by omega) hL ?_
  refine VL_mI (m_wipe l G (xs (i + 1)) h.1.1) dL_law_244 (lw_V q1311 q1312 q1313 q103 q1314) hv_X5_wipe (by decide) rfl (Nat.le_of_ble_eq_true rfl) (fun r2 G1 h3 => ?_)
  obtain ⟨e2, e3⟩ := h3
  rw [e3]
  exact V_icmp_eq (tgt := 1339) dL_law_247 (by decide) (fun _ => kk _ X1 (INV_k h h1 (MI_wipe h.1 (xs (i + 1))) (k_wipe (xs (i + 1))))) (fun z => absurd (e1.trans e2.symm) z)
set_option maxHeartbeats 400000 in
theorem law_2 (l : Launch) (hl : l.stackTraces = false) {Q : Option Value → xW → Prop} {G X : xSt} {L i : Nat} {xs : Nat → Int32} (h : INV G X) (hi : i + 6 ≤ L) (hL : L ≤ 384) {k n : Nat} (kk : ∀ G' X', INV G' X' → V l ML (room_1, fL, Q, xX0) 1339 [some (.ref 990), some (.ref 0), some (.ref 1000), some (.int (nI i))] [] (wL X' G' L xs) k n) : V l ML (room_1, fL, Q, xX0) 252 [some (.ref 990), some (.ref 0), some (.ref 1000), some (.int (nI i))] [] (wL X G L xs) (1802 + k) (12620 + n) := by
  refine V_aload_n dL_law_252 rfl ?_
  refine V_aload_n dL_law_253 rfl ?_
  refine V_iload_n dL_law_254 rfl ?_
  refine V_iconst dL_law_255 li_1 ?_
  refine V_iaddN dL_law_256 ?_
  refine V_sc dL_law_257 rfl (by omega) hL ?_
  refine VL_xI (k' := k) (n' := n) (x_undo l h.2.2 h.1 (xs (i + 1))) x0_B dL_law_258 (lw_V q331 q332 q333 q95 q334) hv_X0_undo (by decide) rfl (Nat.le_of_ble_eq_true rfl) (okl_c (ok_r (by unfold fB fA; decide)) (okl_c (ok_r (by unfold fB fA; decide)) (okl_c (ok_r (by unfold fB fA; decide)) (okl_c ok_i okl_0)))) oks_0 ⟨by omega, by omega⟩ (fun r1 X1 h2 => ?_)
  obtain ⟨e1, h1⟩ := h2
  refine V_aload_n dL_law_261 rfl ?_
  refine V_aload_n dL_law_262 rfl ?_
  refine V_iload_n dL_law_263 rfl ?_
  refine V_iconst dL_law_264 li_1 ?_
  refine V_iaddN dL_law_265 ?_
  refine V_sc dL_law_266 rfl (by omega) hL ?_
  refine VL_mI (m_undo l G (xs (i + 1)) h.1.1) dL_law_267 (lw_V q1315 q1316 q1317 q103 q1318) hv_X5_undo (by decide) rfl (Nat.le_of_ble_eq_true rfl) (fun r2 G1 h3 => ?_)
  obtain ⟨e2, e3⟩ := h3
  rw [e3]
  exact V_icmp_eq (tgt := 1339) dL_law_270 (by decide) (fun _ => kk _ X1 (INV_k h h1 (MI_undo h.1 (xs (i + 1))) (k_undo (xs (i + 1))))) (fun z => absurd (e1.trans e2.symm) z)
set_option maxHeartbeats 400000 in
theorem law_3 (l : Launch) (hl : l.stackTraces = false) {Q : Option Value → xW → Prop} {G X : xSt} {L i : Nat} {xs : Nat → Int32} (h : INV G X) (hi : i + 6 ≤ L) (hL : L ≤ 384) {k n : Nat} (kk : ∀ G' X', INV G' X' → V l ML (room_1, fL, Q, xX0) 1339 [some (.ref 990), some (.ref 0), some (.ref 1000), some (.int (nI i))] [] (wL X' G' L xs) k n) : V l ML (room_1, fL, Q, xX0) 275 [some (.ref 990), some (.ref 0), some (.ref 1000), some (.int (nI i))] [] (wL X G L xs) (1802 + k) (12620 + n) := by
  refine V_aload_n dL_law_275 rfl ?_
  refine V_aload_n dL_law_276 rfl ?_
  refine V_iload_n dL_law_277 rfl ?_
  refine V_iconst dL_law_278 li_1 ?_
  refine V_iaddN dL_law_279 ?_
  refine V_sc dL_law_280 rfl (by omega) hL ?_
  refine VL_xI (k' := k) (n' := n) (x_fault l h.2.2 (xs (i + 1))) fF_B dL_law_281 (lw_V q341 q342 q343 q95 q344) hv_X0_fault (by decide) rfl (Nat.le_of_ble_eq_true rfl) (okl_c (ok_r (by unfold fB fA; decide)) (okl_c (ok_r (by unfold fB fA; decide)) (okl_c (ok_r (by unfold fB fA; decide)) (okl_c ok_i okl_0)))) oks_0 ⟨by have := rc_le X; omega, by have := rc_le X; omega⟩ (fun r1 X1 h2 => ?_)
  obtain ⟨e1, h1⟩ := h2
  refine V_aload_n dL_law_284 rfl ?_
  refine V_aload_n dL_law_285 rfl ?_
  refine V_iload_n dL_law_286 rfl ?_
  refine V_iconst dL_law_287 li_1 ?_
  refine V_iaddN dL_law_288 ?_
  refine V_sc dL_law_289 rfl (by omega) hL ?_
  refine VL_mI (m_fault l G (xs (i + 1)) h.1.1) dL_law_290 (lw_V q1319 q1320 q1321 q103 q1322) hv_X5_fault (by decide) rfl (Nat.le_of_ble_eq_true rfl) (fun r2 G1 h3 => ?_)
  obtain ⟨e2, e3⟩ := h3
  rw [e3]
  exact V_icmp_eq (tgt := 1339) dL_law_293 (by decide) (fun _ => kk _ X1 (INV_q h h1 (c_fault h.1 (xs (i + 1))))) (fun z => absurd (e1.trans e2.symm) z)
set_option maxHeartbeats 400000 in
theorem law_4 (l : Launch) (hl : l.stackTraces = false) {Q : Option Value → xW → Prop} {G X : xSt} {L i : Nat} {xs : Nat → Int32} (h : INV G X) (hi : i + 6 ≤ L) (hL : L ≤ 384) {k n : Nat} (kk : ∀ G' X', INV G' X' → V l ML (room_1, fL, Q, xX0) 1339 [some (.ref 990), some (.ref 0), some (.ref 1000), some (.int (nI i))] [] (wL X' G' L xs) k n) : V l ML (room_1, fL, Q, xX0) 298 [some (.ref 990), some (.ref 0), some (.ref 1000), some (.int (nI i))] [] (wL X G L xs) (1802 + k) (12620 + n) := by
  refine V_aload_n dL_law_298 rfl ?_
  refine V_aload_n dL_law_299 rfl ?_
  refine V_iload_n dL_law_300 rfl ?_
  refine V_iconst dL_law_301 li_1 ?_
  refine V_iaddN dL_law_302 ?_
  refine V_sc dL_law_303 rfl (by omega) hL ?_
  refine V_aload_n dL_law_304 rfl ?_
  refine V_iload_n dL_law_305 rfl ?_
  refine V_iconst dL_law_306 li_2 ?_
  refine V_iaddN dL_law_307 ?_
  refine V_sc dL_law_308 rfl (by omega) hL ?_
  refine VL_xI (k' := k) (n' := n) (x_person l h.2.2 h.1 (xs (i + 1)) (xs (i + 2))) fF_B dL_law_309 (lw_V q650 q651 q652 q95 q653) hv_X0_person (by decide) rfl (Nat.le_of_ble_eq_true rfl) (okl_c (ok_r (by unfold fB fA; decide)) (okl_c (ok_r (by unfold fB fA; decide)) (okl_c (ok_r (by unfold fB fA; decide)) (okl_c ok_i okl_0)))) oks_0 ⟨by have := rc_le X; omega, by have := rc_le X; omega⟩ (fun r1 X1 h2 => ?_)
  obtain ⟨e1, h1⟩ := h2
  refine V_aload_n dL_law_312 rfl ?_
  refine V_aload_n dL_law_313 rfl ?_
  refine V_iload_n dL_law_314 rfl ?_
  refine V_iconst dL_law_315 li_1 ?_
  refine V_iaddN dL_law_316 ?_
  refine V_sc dL_law_317 rfl (by omega) hL ?_
  refine V_aload_n dL_law_318 rfl ?_
  refine V_iload_n dL_law_319 rfl ?_
  refine V_iconst dL_law_320 li_2 ?_
  refine V_iaddN dL_law_321 ?_
  refine V_sc dL_law_322 rfl (by omega) hL ?_
  refine VL_mI (m_person l G (xs (i + 1)) (xs (i + 2)) h.1) dL_law_323 (lw_V q1343 q1344 q1345 q103 q1346) hv_X5_person (by decide) rfl (Nat.le_of_ble_eq_true rfl) (fun r2 G1 h3 => ?_)
  obtain ⟨e2, e3⟩ := h3
  rw [e3]
  exact V_icmp_eq (tgt := 1339) dL_law_326 (by decide) (fun _ => kk _ X1 (INV_q h h1 (c_person h.1 (xs (i + 1)) (xs (i + 2))))) (fun z => absurd (e1.trans e2.symm) z)
set_option maxHeartbeats 400000 in
theorem law_5 (l : Launch) (hl : l.stackTraces = false) {Q : Option Value → xW → Prop} {G X : xSt} {L i : Nat} {xs : Nat → Int32} (h : INV G X) (hi : i + 6 ≤ L) (hL : L ≤ 384) {k n : Nat} (kk : ∀ G' X', INV G' X' → V l ML (room_1, fL, Q, xX0) 1339 [some (.ref 990), some (.ref 0), some (.ref 1000), some (.int (nI i))] [] (wL X' G' L xs) k n) : V l ML (room_1, fL, Q, xX0) 331 [some (.ref 990), some (.ref 0), some (.ref 1000), some (.int (nI i))] [] (wL X G L xs) (1802 + k) (12620 + n) := by
  refine V_aload_n dL_law_331 rfl ?_
  refine V_aload_n dL_law_332 rfl ?_
  refine V_iload_n dL_law_333 rfl ?_
  refine V_iconst dL_law_334 li_1 ?_
  refine V_iaddN dL_law_335 ?_
  refine V_sc dL_law_336 rfl (by omega) hL ?_
  refine V_aload_n dL_law_337 rfl ?_
  refine V_iload_n dL_law_338 rfl ?_
  refine V_iconst dL_law_339 li_2 ?_
  refine V_iaddN dL_law_340 ?_
  refine V_sc dL_law_341 rfl (by omega) hL ?_
  refine VL_xI (k' := k) (n' := n) (x_promise l h.2.2 h.1 (xs (i + 1)) (xs (i + 2))) fF_B dL_law_342 (lw_V q699 q700 q701 q95 q702) hv_X0_promise (by decide) rfl (Nat.le_of_ble_eq_true rfl) (okl_c (ok_r (by unfold fB fA; decide)) (okl_c (ok_r (by unfold fB fA; decide)) (okl_c (ok_r (by unfold fB fA; decide)) (okl_c ok_i okl_0)))) oks_0 ⟨by have := rc_le X; omega, by have := rc_le X; omega⟩ (fun r1 X1 h2 => ?_)
  obtain ⟨e1, h1⟩ := h2
  refine V_aload_n dL_law_345 rfl ?_
  refine V_aload_n dL_law_346 rfl ?_
  refine V_iload_n dL_law_347 rfl ?_
  refine V_iconst dL_law_348 li_1 ?_
  refine V_iaddN dL_law_349 ?_
  refine V_sc dL_law_350 rfl (by omega) hL ?_
  refine V_aload_n dL_law_351 rfl ?_
  refine V_iload_n dL_law_352 rfl ?_
  refine V_iconst dL_law_353 li_2 ?_
  refine V_iaddN dL_law_354 ?_
  refine V_sc dL_law_355 rfl (by omega) hL ?_
  refine VL_mI (m_promise l G (xs (i + 1)) (xs (i + 2)) h.1) dL_law_356 (lw_V q1359 q1360 q1361 q103 q1362) hv_X5_promise (by decide) rfl (Nat.le_of_ble_eq_true rfl) (fun r2 G1 h3 => ?_)
  obtain ⟨e2, e3⟩ := h3
  rw [e3]
  exact V_icmp_eq (tgt := 1339) dL_law_359 (by decide) (fun _ => kk _ X1 (INV_q h h1 (c_promise h.1 (xs (i + 1)) (xs (i + 2))))) (fun z => absurd (e1.trans e2.symm) z)
set_option maxHeartbeats 400000 in
theorem law_6 (l : Launch) (hl : l.stackTraces = false) {Q : Option Value → xW → Prop} {G X : xSt} {L i : Nat} {xs : Nat → Int32} (h : INV G X) (hi : i + 6 ≤ L) (hL : L ≤ 384) {k n : Nat} (kk : ∀ G' X', INV G' X' → V l ML (room_1, fL, Q, xX0) 1339 [some (.ref 990), some (.ref 0), some (.ref 1000), some (.int (nI i))] [] (wL X' G' L xs) k n) : V l ML (room_1, fL, Q, xX0) 364 [some (.ref 990), some (.ref 0), some (.ref 1000), some (.int (nI i))] [] (wL X G L xs) (1802 + k) (12620 + n) := by
  refine V_aload_n dL_law_364 rfl ?_
  refine V_aload_n dL_law_365 rfl ?_
  refine V_iload_n dL_law_366 rfl ?_
  refine V_iconst dL_law_367 li_1 ?_
  refine V_iaddN dL_law_368 ?_
  refine V_sc dL_law_369 rfl (by omega) hL ?_
  refine V_aload_n dL_law_370 rfl ?_
  refine V_iload_n dL_law_371 rfl ?_
  refine V_iconst dL_law_372 li_2 ?_
  refine V_iaddN dL_law_373 ?_
  refine V_sc dL_law_374 rfl (by omega) hL ?_
  refine VL_xI (k' := k) (n' := n) (x_keeping l h.2.2 h.1 (xs (i + 1)) (xs (i + 2))) (aF_B (by decide)) dL_law_375 (lw_V q716 q717 q718 q95 q719) hv_X0_keeping (by decide) rfl (Nat.le_of_ble_eq_true rfl) (okl_c (ok_r (by unfold fB fA; decide)) (okl_c (ok_r (by unfold fB fA; decide)) (okl_c (ok_r (by unfold fB fA; decide)) (okl_c ok_i okl_0)))) oks_0 ⟨by omega, by omega⟩ (fun r1 X1 h2 => ?_)
  obtain ⟨e1, h1⟩ := h2
  refine V_aload_n dL_law_378 rfl ?_
  refine V_aload_n dL_law_379 rfl ?_
  refine V_iload_n dL_law_380 rfl ?_
  refine V_iconst dL_law_381 li_1 ?_
  refine V_iaddN dL_law_382 ?_
  refine V_sc dL_law_383 rfl (by omega) hL ?_
  refine V_aload_n dL_law_384 rfl ?_
  refine V_iload_n dL_law_385 rfl ?_
  refine V_iconst dL_law_386 li_2 ?_
  refine V_iaddN dL_law_387 ?_
  refine V_sc dL_law_388 rfl (by omega) hL ?_
  refine VL_mI (m_keeping l G (xs (i + 1)) (xs (i + 2)) h.1.2.2.1) dL_law_389 (lw_V q1371 q1372 q1373 q103 q1374) hv_X5_keeping (by decide) rfl (Nat.le_of_ble_eq_true rfl) (fun r2 G1 h3 => ?_)
  obtain ⟨e2, e3⟩ := h3
  rw [e3]
  exact V_icmp_eq (tgt := 1339) dL_law_392 (by decide) (fun _ => kk _ X1 (INV_k h h1 (MI_keeping h.1 (xs (i + 1)) (xs (i + 2))) (k_keeping (xs (i + 1)) (xs (i + 2))))) (fun z => absurd (e1.trans e2.symm) z)
set_option maxHeartbeats 400000 in
theorem law_7 (l : Launch) (hl : l.stackTraces = false) {Q : Option Value → xW → Prop} {G X : xSt} {L i : Nat} {xs : Nat → Int32} (h : INV G X) (hi : i + 6 ≤ L) (hL : L ≤ 384) {k n : Nat} (kk : ∀ G' X', INV G' X' → V l ML (room_1, fL, Q, xX0) 1339 [some (.ref 990), some (.ref 0), some (.ref 1000), some (.int (nI i))] [] (wL X' G' L xs) k n) : V l ML (room_1, fL, Q, xX0) 397 [some (.ref 990), some (.ref 0), some (.ref 1000), some (.int (nI i))] [] (wL X G L xs) (1802 + k) (12620 + n) := by
  refine V_aload_n dL_law_397 rfl ?_
  refine V_aload_n dL_law_398 rfl ?_
  refine V_iload_n dL_law_399 rfl ?_
  refine V_iconst dL_law_400 li_1 ?_
  refine V_iaddN dL_law_401 ?_
  refine V_sc dL_law_402 rfl (by omega) hL ?_
  refine V_aload_n dL_law_403 rfl ?_
  refine V_iload_n dL_law_404 rfl ?_
  refine V_iconst dL_law_405 li_2 ?_
  refine V_iaddN dL_law_406 ?_
  refine V_sc dL_law_407 rfl (by omega) hL ?_
  refine V_aload_n dL_law_408 rfl ?_
  refine V_iload_n dL_law_409 rfl ?_
  refine V_iconst dL_law_410 li_3 ?_
  refine V_iaddN dL_law_411 ?_
  refine V_sc dL_law_412 rfl (by omega) hL ?_
  refine VL_xI (k' := k) (n' := n) (x_lie l h.2.2 h.1 (xs (i + 1)) (xs (i + 2)) (xs (i + 3))) (aF_B (by decide)) dL_law_413 (lw_V q727 q728 q729 q95 q730) hv_X0_lie (by decide) rfl (Nat.le_of_ble_eq_true rfl) (okl_c (ok_r (by unfold fB fA; decide)) (okl_c (ok_r (by unfold fB fA; decide)) (okl_c (ok_r (by unfold fB fA; decide)) (okl_c ok_i okl_0)))) oks_0 ⟨by omega, by omega⟩ (fun r1 X1 h2 => ?_)
  obtain ⟨e1, h1⟩ := h2
  refine V_aload_n dL_law_416 rfl ?_
  refine V_aload_n dL_law_417 rfl ?_
  refine V_iload_n dL_law_418 rfl ?_
  refine V_iconst dL_law_419 li_1 ?_
  refine V_iaddN dL_law_420 ?_
  refine V_sc dL_law_421 rfl (by omega) hL ?_
  refine V_aload_n dL_law_422 rfl ?_
  refine V_iload_n dL_law_423 rfl ?_
  refine V_iconst dL_law_424 li_2 ?_
  refine V_iaddN dL_law_425 ?_
  refine V_sc dL_law_426 rfl (by omega) hL ?_
  refine V_aload_n dL_law_427 rfl ?_
  refine V_iload_n dL_law_428 rfl ?_
  refine V_iconst dL_law_429 li_3 ?_
  refine V_iaddN dL_law_430 ?_
  refine V_sc dL_law_431 rfl (by omega) hL ?_
  refine VL_mI (m_lie l G (xs (i + 1)) (xs (i + 2)) (xs (i + 3)) h.1.2.2.2.2.2.1) dL_law_432 (lw_V q1378 q1379 q1380 q103 q1381) hv_X5_lie (by decide) rfl (Nat.le_of_ble_eq_true rfl) (fun r2 G1 h3 => ?_)
  obtain ⟨e2, e3⟩ := h3
  rw [e3]
  exact V_icmp_eq (tgt := 1339) dL_law_435 (by decide) (fun _ => kk _ X1 (INV_k h h1 (MI_lie h.1 (xs (i + 1)) (xs (i + 2)) (xs (i + 3))) (k_add3 (by decide) (by decide) (xs (i + 1)) (xs (i + 2)) (xs (i + 3))))) (fun z => absurd (e1.trans e2.symm) z)
set_option maxHeartbeats 400000 in
theorem law_8 (l : Launch) (hl : l.stackTraces = false) {Q : Option Value → xW → Prop} {G X : xSt} {L i : Nat} {xs : Nat → Int32} (h : INV G X) (hi : i + 6 ≤ L) (hL : L ≤ 384) {k n : Nat} (kk : ∀ G' X', INV G' X' → V l ML (room_1, fL, Q, xX0) 1339 [some (.ref 990), some (.ref 0), some (.ref 1000), some (.int (nI i))] [] (wL X' G' L xs) k n) : V l ML (room_1, fL, Q, xX0) 440 [some (.ref 990), some (.ref 0), some (.ref 1000), some (.int (nI i))] [] (wL X G L xs) (1802 + k) (12620 + n) := by
  refine V_aload_n dL_law_440 rfl ?_
  refine V_aload_n dL_law_441 rfl ?_
  refine V_iload_n dL_law_442 rfl ?_
  refine V_iconst dL_law_443 li_1 ?_
  refine V_iaddN dL_law_444 ?_
  refine V_sc dL_law_445 rfl (by omega) hL ?_
  refine V_aload_n dL_law_446 rfl ?_
  refine V_iload_n dL_law_447 rfl ?_
  refine V_iconst dL_law_448 li_2 ?_
  refine V_iaddN dL_law_449 ?_
  refine V_sc dL_law_450 rfl (by omega) hL ?_
  refine V_aload_n dL_law_451 rfl ?_
  refine V_iload_n dL_law_452 rfl ?_
  refine V_iconst dL_law_453 li_3 ?_
  refine V_iaddN dL_law_454 ?_
  refine V_sc dL_law_455 rfl (by omega) hL ?_
  refine VL_xI (k' := k) (n' := n) (x_letting l h.2.2 h.1 (xs (i + 1)) (xs (i + 2)) (xs (i + 3))) (aF_B (by decide)) dL_law_456 (lw_V q735 q736 q737 q95 q738) hv_X0_letting (by decide) rfl (Nat.le_of_ble_eq_true rfl) (okl_c (ok_r (by unfold fB fA; decide)) (okl_c (ok_r (by unfold fB fA; decide)) (okl_c (ok_r (by unfold fB fA; decide)) (okl_c ok_i okl_0)))) oks_0 ⟨by omega, by omega⟩ (fun r1 X1 h2 => ?_)
  obtain ⟨e1, h1⟩ := h2
  refine V_aload_n dL_law_459 rfl ?_
  refine V_aload_n dL_law_460 rfl ?_
  refine V_iload_n dL_law_461 rfl ?_
  refine V_iconst dL_law_462 li_1 ?_
  refine V_iaddN dL_law_463 ?_
  refine V_sc dL_law_464 rfl (by omega) hL ?_
  refine V_aload_n dL_law_465 rfl ?_
  refine V_iload_n dL_law_466 rfl ?_
  refine V_iconst dL_law_467 li_2 ?_
  refine V_iaddN dL_law_468 ?_
  refine V_sc dL_law_469 rfl (by omega) hL ?_
  refine V_aload_n dL_law_470 rfl ?_
  refine V_iload_n dL_law_471 rfl ?_
  refine V_iconst dL_law_472 li_3 ?_
  refine V_iaddN dL_law_473 ?_
  refine V_sc dL_law_474 rfl (by omega) hL ?_
  refine VL_mI (m_letting l G (xs (i + 1)) (xs (i + 2)) (xs (i + 3)) h.1.2.2.2.2.2.2.2.1) dL_law_475 (lw_V q1385 q1386 q1387 q103 q1388) hv_X5_letting (by decide) rfl (Nat.le_of_ble_eq_true rfl) (fun r2 G1 h3 => ?_)
  obtain ⟨e2, e3⟩ := h3
  rw [e3]
  exact V_icmp_eq (tgt := 1339) dL_law_478 (by decide) (fun _ => kk _ X1 (INV_k h h1 (MI_letting h.1 (xs (i + 1)) (xs (i + 2)) (xs (i + 3))) (k_add3 (by decide) (by decide) (xs (i + 1)) (xs (i + 2)) (xs (i + 3))))) (fun z => absurd (e1.trans e2.symm) z)
set_option maxHeartbeats 400000 in
theorem law_9 (l : Launch) (hl : l.stackTraces = false) {Q : Option Value → xW → Prop} {G X : xSt} {L i : Nat} {xs : Nat → Int32} (h : INV G X) (hi : i + 6 ≤ L) (hL : L ≤ 384) {k n : Nat} (kk : ∀ G' X', INV G' X' → V l ML (room_1, fL, Q, xX0) 1339 [some (.ref 990), some (.ref 0), some (.ref 1000), some (.int (nI i))] [] (wL X' G' L xs) k n) : V l ML (room_1, fL, Q, xX0) 483 [some (.ref 990), some (.ref 0), some (.ref 1000), some (.int (nI i))] [] (wL X G L xs) (1802 + k) (12620 + n) := by
  refine V_aload_n dL_law_483 rfl ?_
  refine V_aload_n dL_law_484 rfl ?_
  refine V_iload_n dL_law_485 rfl ?_
  refine V_iconst dL_law_486 li_1 ?_
  refine V_iaddN dL_law_487 ?_
  refine V_sc dL_law_488 rfl (by omega) hL ?_
  refine VL_xI (k' := k) (n' := n) (x_back l h.2.2 h.1 (xs (i + 1))) x0_B dL_law_489 (lw_V q739 q740 q741 q95 q742) hv_X0_back (by decide) rfl (Nat.le_of_ble_eq_true rfl) (okl_c (ok_r (by unfold fB fA; decide)) (okl_c (ok_r (by unfold fB fA; decide)) (okl_c (ok_r (by unfold fB fA; decide)) (okl_c ok_i okl_0)))) oks_0 ⟨by omega, by omega⟩ (fun r1 X1 h2 => ?_)
  obtain ⟨e1, h1⟩ := h2
  refine V_aload_n dL_law_492 rfl ?_
  refine V_aload_n dL_law_493 rfl ?_
  refine V_iload_n dL_law_494 rfl ?_
  refine V_iconst dL_law_495 li_1 ?_
  refine V_iaddN dL_law_496 ?_
  refine V_sc dL_law_497 rfl (by omega) hL ?_
  refine VL_mI (m_back l G (xs (i + 1))) dL_law_498 (lw_V q1389 q1390 q1391 q103 q1392) hv_X5_back (by decide) rfl (Nat.le_of_ble_eq_true rfl) (fun r2 G1 h3 => ?_)
  obtain ⟨e2, e3⟩ := h3
  rw [e3]
  exact V_icmp_eq (tgt := 1339) dL_law_501 (by decide) (fun _ => kk _ X1 (INV_k h h1 (MI_back h.1 (xs (i + 1))) (k_back (xs (i + 1))))) (fun z => absurd (e1.trans e2.symm) z)
set_option maxHeartbeats 400000 in
theorem law_10 (l : Launch) (hl : l.stackTraces = false) {Q : Option Value → xW → Prop} {G X : xSt} {L i : Nat} {xs : Nat → Int32} (h : INV G X) (hi : i + 6 ≤ L) (hL : L ≤ 384) {k n : Nat} (kk : ∀ G' X', INV G' X' → V l ML (room_1, fL, Q, xX0) 1339 [some (.ref 990), some (.ref 0), some (.ref 1000), some (.int (nI i))] [] (wL X' G' L xs) k n) : V l ML (room_1, fL, Q, xX0) 506 [some (.ref 990), some (.ref 0), some (.ref 1000), some (.int (nI i))] [] (wL X G L xs) (1802 + k) (12620 + n) := by
  refine V_aload_n dL_law_506 rfl ?_
  refine V_aload_n dL_law_507 rfl ?_
  refine V_iload_n dL_law_508 rfl ?_
  refine V_iconst dL_law_509 li_1 ?_
  refine V_iaddN dL_law_510 ?_
  refine V_sc dL_law_511 rfl (by omega) hL ?_
  refine VL_xI (k' := k) (n' := n) (x_read l h.2.2 h.1 (xs (i + 1))) (aF_B (by decide)) dL_law_512 (lw_V q757 q758 q759 q95 q760) hv_X0_read (by decide) rfl (Nat.le_of_ble_eq_true rfl) (okl_c (ok_r (by unfold fB fA; decide)) (okl_c (ok_r (by unfold fB fA; decide)) (okl_c (ok_r (by unfold fB fA; decide)) (okl_c ok_i okl_0)))) oks_0 ⟨by omega, by omega⟩ (fun r1 X1 h2 => ?_)
  obtain ⟨e1, h1⟩ := h2
  refine V_aload_n dL_law_515 rfl ?_
  refine V_aload_n dL_law_516 rfl ?_
  refine V_iload_n dL_law_517 rfl ?_
  refine V_iconst dL_law_518 li_1 ?_
  refine V_iaddN dL_law_519 ?_
  refine V_sc dL_law_520 rfl (by omega) hL ?_
  refine VL_mI (m_read l G (xs (i + 1)) h.1.2.2.1 h.1.2.2.2.2.2.2.2.2.2.2.2.2) dL_law_521 (lw_V q1393 q1394 q1395 q103 q1396) hv_X5_read (by decide) rfl (Nat.le_of_ble_eq_true rfl) (fun r2 G1 h3 => ?_)
  obtain ⟨e2, e3⟩ := h3
  rw [e3]
  exact V_icmp_eq (tgt := 1339) dL_law_524 (by decide) (fun _ => kk _ X1 (INV_k h h1 (MI_read h.1 (xs (i + 1))) (k_read (xs (i + 1))))) (fun z => absurd (e1.trans e2.symm) z)
set_option maxHeartbeats 400000 in
theorem law_11 (l : Launch) (hl : l.stackTraces = false) {Q : Option Value → xW → Prop} {G X : xSt} {L i : Nat} {xs : Nat → Int32} (h : INV G X) (hi : i + 6 ≤ L) (hL : L ≤ 384) {k n : Nat} (kk : ∀ G' X', INV G' X' → V l ML (room_1, fL, Q, xX0) 1339 [some (.ref 990), some (.ref 0), some (.ref 1000), some (.int (nI i))] [] (wL X' G' L xs) k n) : V l ML (room_1, fL, Q, xX0) 529 [some (.ref 990), some (.ref 0), some (.ref 1000), some (.int (nI i))] [] (wL X G L xs) (1802 + k) (12620 + n) := by
  refine V_aload_n dL_law_529 rfl ?_
  refine V_aload_n dL_law_530 rfl ?_
  refine V_iload_n dL_law_531 rfl ?_
  refine V_iconst dL_law_532 li_1 ?_
  refine V_iaddN dL_law_533 ?_
  refine V_sc dL_law_534 rfl (by omega) hL ?_
  refine V_aload_n dL_law_535 rfl ?_
  refine V_iload_n dL_law_536 rfl ?_
  refine V_iconst dL_law_537 li_2 ?_
  refine V_iaddN dL_law_538 ?_
  refine V_sc dL_law_539 rfl (by omega) hL ?_
  refine V_aload_n dL_law_540 rfl ?_
  refine V_iload_n dL_law_541 rfl ?_
  refine V_iconst dL_law_542 li_3 ?_
  refine V_iaddN dL_law_543 ?_
  refine V_sc dL_law_544 rfl (by omega) hL ?_
  refine VL_xI (k' := k) (n' := n) (x_coat l h.2.2 h.1 (xs (i + 1)) (xs (i + 2)) (xs (i + 3))) fF_B dL_law_545 (lw_V q785 q786 q787 q95 q788) hv_X0_coat (by decide) rfl (Nat.le_of_ble_eq_true rfl) (okl_c (ok_r (by unfold fB fA; decide)) (okl_c (ok_r (by unfold fB fA; decide)) (okl_c (ok_r (by unfold fB fA; decide)) (okl_c ok_i okl_0)))) oks_0 ⟨by have := rc_le X; omega, by have := rc_le X; omega⟩ (fun r1 X1 h2 => ?_)
  obtain ⟨e1, h1⟩ := h2
  refine V_aload_n dL_law_548 rfl ?_
  refine V_aload_n dL_law_549 rfl ?_
  refine V_iload_n dL_law_550 rfl ?_
  refine V_iconst dL_law_551 li_1 ?_
  refine V_iaddN dL_law_552 ?_
  refine V_sc dL_law_553 rfl (by omega) hL ?_
  refine V_aload_n dL_law_554 rfl ?_
  refine V_iload_n dL_law_555 rfl ?_
  refine V_iconst dL_law_556 li_2 ?_
  refine V_iaddN dL_law_557 ?_
  refine V_sc dL_law_558 rfl (by omega) hL ?_
  refine V_aload_n dL_law_559 rfl ?_
  refine V_iload_n dL_law_560 rfl ?_
  refine V_iconst dL_law_561 li_3 ?_
  refine V_iaddN dL_law_562 ?_
  refine V_sc dL_law_563 rfl (by omega) hL ?_
  refine VL_mI (m_coat l G (xs (i + 1)) (xs (i + 2)) (xs (i + 3)) h.1) dL_law_564 (lw_V q1405 q1406 q1407 q103 q1408) hv_X5_coat (by decide) rfl (Nat.le_of_ble_eq_true rfl) (fun r2 G1 h3 => ?_)
  obtain ⟨e2, e3⟩ := h3
  rw [e3]
  exact V_icmp_eq (tgt := 1339) dL_law_567 (by decide) (fun _ => kk _ X1 (INV_q h h1 (c_coat h.1 (xs (i + 1)) (xs (i + 2)) (xs (i + 3))))) (fun z => absurd (e1.trans e2.symm) z)
set_option maxHeartbeats 400000 in
theorem law_12 (l : Launch) (hl : l.stackTraces = false) {Q : Option Value → xW → Prop} {G X : xSt} {L i : Nat} {xs : Nat → Int32} (h : INV G X) (hi : i + 6 ≤ L) (hL : L ≤ 384) {k n : Nat} (kk : ∀ G' X', INV G' X' → V l ML (room_1, fL, Q, xX0) 1339 [some (.ref 990), some (.ref 0), some (.ref 1000), some (.int (nI i))] [] (wL X' G' L xs) k n) : V l ML (room_1, fL, Q, xX0) 572 [some (.ref 990), some (.ref 0), some (.ref 1000), some (.int (nI i))] [] (wL X G L xs) (1802 + k) (12620 + n) := by
  refine V_aload_n dL_law_572 rfl ?_
  refine V_aload_n dL_law_573 rfl ?_
  refine V_iload_n dL_law_574 rfl ?_
  refine V_iconst dL_law_575 li_1 ?_
  refine V_iaddN dL_law_576 ?_
  refine V_sc dL_law_577 rfl (by omega) hL ?_
  refine V_aload_n dL_law_578 rfl ?_
  refine V_iload_n dL_law_579 rfl ?_
  refine V_iconst dL_law_580 li_2 ?_
  refine V_iaddN dL_law_581 ?_
  refine V_sc dL_law_582 rfl (by omega) hL ?_
  refine VL_xI (k' := k) (n' := n) (x_stands l h.2.2 h.1 (xs (i + 1)) (xs (i + 2))) fF_B dL_law_583 (lw_V q849 q850 q851 q95 q852) hv_X0_stands (by decide) rfl (Nat.le_of_ble_eq_true rfl) (okl_c (ok_r (by unfold fB fA; decide)) (okl_c (ok_r (by unfold fB fA; decide)) (okl_c (ok_r (by unfold fB fA; decide)) (okl_c ok_i okl_0)))) oks_0 ⟨by have := rc_le X; omega, by have := rc_le X; omega⟩ (fun r1 X1 h2 => ?_)
  obtain ⟨e1, h1⟩ := h2
  refine V_aload_n dL_law_586 rfl ?_
  refine V_aload_n dL_law_587 rfl ?_
  refine V_iload_n dL_law_588 rfl ?_
  refine V_iconst dL_law_589 li_1 ?_
  refine V_iaddN dL_law_590 ?_
  refine V_sc dL_law_591 rfl (by omega) hL ?_
  refine V_aload_n dL_law_592 rfl ?_
  refine V_iload_n dL_law_593 rfl ?_
  refine V_iconst dL_law_594 li_2 ?_
  refine V_iaddN dL_law_595 ?_
  refine V_sc dL_law_596 rfl (by omega) hL ?_
  refine VL_mI (m_stands l G (xs (i + 1)) (xs (i + 2)) h.1) dL_law_597 (lw_V q1460 q1461 q1462 q103 q1463) hv_X5_stands (by decide) rfl (Nat.le_of_ble_eq_true rfl) (fun r2 G1 h3 => ?_)
  obtain ⟨e2, e3⟩ := h3
  rw [e3]
  exact V_icmp_eq (tgt := 1339) dL_law_600 (by decide) (fun _ => kk _ X1 (INV_q h h1 (c_stands h.1 (xs (i + 1)) (xs (i + 2))))) (fun z => absurd (e1.trans e2.symm) z)
set_option maxHeartbeats 400000 in
theorem law_13 (l : Launch) (hl : l.stackTraces = false) {Q : Option Value → xW → Prop} {G X : xSt} {L i : Nat} {xs : Nat → Int32} (h : INV G X) (hi : i + 6 ≤ L) (hL : L ≤ 384) {k n : Nat} (kk : ∀ G' X', INV G' X' → V l ML (room_1, fL, Q, xX0) 1339 [some (.ref 990), some (.ref 0), some (.ref 1000), some (.int (nI i))] [] (wL X' G' L xs) k n) : V l ML (room_1, fL, Q, xX0) 605 [some (.ref 990), some (.ref 0), some (.ref 1000), some (.int (nI i))] [] (wL X G L xs) (1802 + k) (12620 + n) := by
  refine V_aload_n dL_law_605 rfl ?_
  refine V_aload_n dL_law_606 rfl ?_
  refine V_iload_n dL_law_607 rfl ?_
  refine V_iconst dL_law_608 li_1 ?_
  refine V_iaddN dL_law_609 ?_
  refine V_sc dL_law_610 rfl (by omega) hL ?_
  refine VL_xI (k' := k) (n' := n) (x_neat l h.2.2 (xs (i + 1))) fF_B dL_law_611 (lw_V q853 q854 q855 q95 q856) hv_X0_neat (by decide) rfl (Nat.le_of_ble_eq_true rfl) (okl_c (ok_r (by unfold fB fA; decide)) (okl_c (ok_r (by unfold fB fA; decide)) (okl_c (ok_r (by unfold fB fA; decide)) (okl_c ok_i okl_0)))) oks_0 ⟨by have := rc_le X; omega, by have := rc_le X; omega⟩ (fun r1 X1 h2 => ?_)
  obtain ⟨e1, h1⟩ := h2
  refine V_aload_n dL_law_614 rfl ?_
  refine V_aload_n dL_law_615 rfl ?_
  refine V_iload_n dL_law_616 rfl ?_
  refine V_iconst dL_law_617 li_1 ?_
  refine V_iaddN dL_law_618 ?_
  refine V_sc dL_law_619 rfl (by omega) hL ?_
  refine VL_mI (m_neat l G (xs (i + 1)) h.1) dL_law_620 (lw_V q1468 q1469 q1470 q103 q1471) hv_X5_neat (by decide) rfl (Nat.le_of_ble_eq_true rfl) (fun r2 G1 h3 => ?_)
  obtain ⟨e2, e3⟩ := h3
  rw [e3]
  exact V_icmp_eq (tgt := 1339) dL_law_623 (by decide) (fun _ => kk _ X1 (INV_q h h1 (c_neat h.1 (xs (i + 1))))) (fun z => absurd (e1.trans e2.symm) z)
set_option maxHeartbeats 400000 in
theorem law_14 (l : Launch) (hl : l.stackTraces = false) {Q : Option Value → xW → Prop} {G X : xSt} {L i : Nat} {xs : Nat → Int32} (h : INV G X) (hi : i + 6 ≤ L) (hL : L ≤ 384) {k n : Nat} (kk : ∀ G' X', INV G' X' → V l ML (room_1, fL, Q, xX0) 1339 [some (.ref 990), some (.ref 0), some (.ref 1000), some (.int (nI i))] [] (wL X' G' L xs) k n) : V l ML (room_1, fL, Q, xX0) 628 [some (.ref 990), some (.ref 0), some (.ref 1000), some (.int (nI i))] [] (wL X G L xs) (1802 + k) (12620 + n) := by
  refine V_aload_n dL_law_628 rfl ?_
  refine V_aload_n dL_law_629 rfl ?_
  refine V_iload_n dL_law_630 rfl ?_
  refine V_iconst dL_law_631 li_1 ?_
  refine V_iaddN dL_law_632 ?_
  refine V_sc dL_law_633 rfl (by omega) hL ?_
  refine VL_xI (k' := k) (n' := n) (x_naked l h.2.2 (xs (i + 1))) fF_B dL_law_634 (lw_V q861 q862 q863 q95 q864) hv_X0_naked (by decide) rfl (Nat.le_of_ble_eq_true rfl) (okl_c (ok_r (by unfold fB fA; decide)) (okl_c (ok_r (by unfold fB fA; decide)) (okl_c (ok_r (by unfold fB fA; decide)) (okl_c ok_i okl_0)))) oks_0 ⟨by have := rc_le X; omega, by have := rc_le X; omega⟩ (fun r1 X1 h2 => ?_)
  obtain ⟨e1, h1⟩ := h2
  refine V_aload_n dL_law_637 rfl ?_
  refine V_aload_n dL_law_638 rfl ?_
  refine V_iload_n dL_law_639 rfl ?_
  refine V_iconst dL_law_640 li_1 ?_
  refine V_iaddN dL_law_641 ?_
  refine V_sc dL_law_642 rfl (by omega) hL ?_
  refine VL_mI (m_naked l G (xs (i + 1)) h.1) dL_law_643 (lw_V q1476 q1477 q1478 q103 q1479) hv_X5_naked (by decide) rfl (Nat.le_of_ble_eq_true rfl) (fun r2 G1 h3 => ?_)
  obtain ⟨e2, e3⟩ := h3
  rw [e3]
  exact V_icmp_eq (tgt := 1339) dL_law_646 (by decide) (fun _ => kk _ X1 (INV_q h h1 (c_naked h.1 (xs (i + 1))))) (fun z => absurd (e1.trans e2.symm) z)
set_option maxHeartbeats 400000 in
theorem law_15 (l : Launch) (hl : l.stackTraces = false) {Q : Option Value → xW → Prop} {G X : xSt} {L i : Nat} {xs : Nat → Int32} (h : INV G X) (hi : i + 6 ≤ L) (hL : L ≤ 384) {k n : Nat} (kk : ∀ G' X', INV G' X' → V l ML (room_1, fL, Q, xX0) 1339 [some (.ref 990), some (.ref 0), some (.ref 1000), some (.int (nI i))] [] (wL X' G' L xs) k n) : V l ML (room_1, fL, Q, xX0) 651 [some (.ref 990), some (.ref 0), some (.ref 1000), some (.int (nI i))] [] (wL X G L xs) (1802 + k) (12620 + n) := by
  refine V_aload_n dL_law_651 rfl ?_
  refine V_aload_n dL_law_652 rfl ?_
  refine V_iload_n dL_law_653 rfl ?_
  refine V_iconst dL_law_654 li_1 ?_
  refine V_iaddN dL_law_655 ?_
  refine V_sc dL_law_656 rfl (by omega) hL ?_
  refine VL_xI (k' := k) (n' := n) (x_longest l h.2.2 (xs (i + 1))) fF_B dL_law_657 (lw_V q869 q870 q871 q95 q872) hv_X0_longest (by decide) rfl (Nat.le_of_ble_eq_true rfl) (okl_c (ok_r (by unfold fB fA; decide)) (okl_c (ok_r (by unfold fB fA; decide)) (okl_c (ok_r (by unfold fB fA; decide)) (okl_c ok_i okl_0)))) oks_0 ⟨by have := rc_le X; omega, by have := rc_le X; omega⟩ (fun r1 X1 h2 => ?_)
  obtain ⟨e1, h1⟩ := h2
  refine V_aload_n dL_law_660 rfl ?_
  refine V_aload_n dL_law_661 rfl ?_
  refine V_iload_n dL_law_662 rfl ?_
  refine V_iconst dL_law_663 li_1 ?_
  refine V_iaddN dL_law_664 ?_
  refine V_sc dL_law_665 rfl (by omega) hL ?_
  refine VL_mI (m_longest l G (xs (i + 1)) h.1) dL_law_666 (lw_V q1488 q1489 q1490 q103 q1491) hv_X5_longest (by decide) rfl (Nat.le_of_ble_eq_true rfl) (fun r2 G1 h3 => ?_)
  obtain ⟨e2, e3⟩ := h3
  rw [e3]
  exact V_icmp_eq (tgt := 1339) dL_law_669 (by decide) (fun _ => kk _ X1 (INV_q h h1 (c_long h.1 (xs (i + 1))))) (fun z => absurd (e1.trans e2.symm) z)
set_option maxHeartbeats 400000 in
theorem law_16 (l : Launch) (hl : l.stackTraces = false) {Q : Option Value → xW → Prop} {G X : xSt} {L i : Nat} {xs : Nat → Int32} (h : INV G X) (hi : i + 6 ≤ L) (hL : L ≤ 384) {k n : Nat} (kk : ∀ G' X', INV G' X' → V l ML (room_1, fL, Q, xX0) 1339 [some (.ref 990), some (.ref 0), some (.ref 1000), some (.int (nI i))] [] (wL X' G' L xs) k n) : V l ML (room_1, fL, Q, xX0) 674 [some (.ref 990), some (.ref 0), some (.ref 1000), some (.int (nI i))] [] (wL X G L xs) (1802 + k) (12620 + n) := by
  refine V_aload_n dL_law_674 rfl ?_
  refine VL_xI (k' := k) (n' := n) (x_splits l h.2.2) fF_B dL_law_675 (lw_V q877 q878 q879 q95 q880) hv_X0_splits (by decide) rfl (Nat.le_of_ble_eq_true rfl) (okl_c (ok_r (by unfold fB fA; decide)) (okl_c (ok_r (by unfold fB fA; decide)) (okl_c (ok_r (by unfold fB fA; decide)) (okl_c ok_i okl_0)))) oks_0 ⟨by have := rc_le X; omega, by have := rc_le X; omega⟩ (fun r1 X1 h2 => ?_)
  obtain ⟨e1, h1⟩ := h2
  refine V_aload_n dL_law_678 rfl ?_
  refine VL_mI (m_splits l G h.1) dL_law_679 (lw_V q1496 q1497 q1498 q103 q1499) hv_X5_splits (by decide) rfl (Nat.le_of_ble_eq_true rfl) (fun r2 G1 h3 => ?_)
  obtain ⟨e2, e3⟩ := h3
  rw [e3]
  exact V_icmp_eq (tgt := 1339) dL_law_682 (by decide) (fun _ => kk _ X1 (INV_q h h1 (CO_RT h.1))) (fun z => absurd (e1.trans e2.symm) z)
set_option maxHeartbeats 400000 in
theorem law_17 (l : Launch) (hl : l.stackTraces = false) {Q : Option Value → xW → Prop} {G X : xSt} {L i : Nat} {xs : Nat → Int32} (h : INV G X) (hi : i + 6 ≤ L) (hL : L ≤ 384) {k n : Nat} (kk : ∀ G' X', INV G' X' → V l ML (room_1, fL, Q, xX0) 1339 [some (.ref 990), some (.ref 0), some (.ref 1000), some (.int (nI i))] [] (wL X' G' L xs) k n) : V l ML (room_1, fL, Q, xX0) 687 [some (.ref 990), some (.ref 0), some (.ref 1000), some (.int (nI i))] [] (wL X G L xs) (1802 + k) (12620 + n) := by
  refine V_aload_n dL_law_687 rfl ?_
  refine VL_xI (k' := k) (n' := n) (x_best l h.2.2) fF_B dL_law_688 (lw_V q885 q886 q887 q95 q888) hv_X0_best (by decide) rfl (Nat.le_of_ble_eq_true rfl) (okl_c (ok_r (by unfold fB fA; decide)) (okl_c (ok_r (by unfold fB fA; decide)) (okl_c (ok_r (by unfold fB fA; decide)) (okl_c ok_i okl_0)))) oks_0 ⟨by have := rc_le X; omega, by have := rc_le X; omega⟩ (fun r1 X1 h2 => ?_)
  obtain ⟨e1, h1⟩ := h2
  refine V_aload_n dL_law_691 rfl ?_
  refine VL_mI (m_best l G h.1) dL_law_692 (lw_V q1508 q1509 q1510 q103 q1511) hv_X5_best (by decide) rfl (Nat.le_of_ble_eq_true rfl) (fun r2 G1 h3 => ?_)
  obtain ⟨e2, e3⟩ := h3
  rw [e3]
  exact V_icmp_eq (tgt := 1339) dL_law_695 (by decide) (fun _ => kk _ X1 (INV_q h h1 (CO_RT h.1))) (fun z => absurd (e1.trans e2.symm) z)
set_option maxHeartbeats 400000 in
theorem law_18 (l : Launch) (hl : l.stackTraces = false) {Q : Option Value → xW → Prop} {G X : xSt} {L i : Nat} {xs : Nat → Int32} (h : INV G X) (hi : i + 6 ≤ L) (hL : L ≤ 384) {k n : Nat} (kk : ∀ G' X', INV G' X' → V l ML (room_1, fL, Q, xX0) 1339 [some (.ref 990), some (.ref 0), some (.ref 1000), some (.int (nI i))] [] (wL X' G' L xs) k n) : V l ML (room_1, fL, Q, xX0) 700 [some (.ref 990), some (.ref 0), some (.ref 1000), some (.int (nI i))] [] (wL X G L xs) (1802 + k) (12620 + n) := by
  refine V_aload_n dL_law_700 rfl ?_
  refine V_aload_n dL_law_701 rfl ?_
  refine V_iload_n dL_law_702 rfl ?_
  refine V_iconst dL_law_703 li_1 ?_
  refine V_iaddN dL_law_704 ?_
  refine V_sc dL_law_705 rfl (by omega) hL ?_
  refine V_aload_n dL_law_706 rfl ?_
  refine V_iload_n dL_law_707 rfl ?_
  refine V_iconst dL_law_708 li_2 ?_
  refine V_iaddN dL_law_709 ?_
  refine V_sc dL_law_710 rfl (by omega) hL ?_
  refine VL_xI (k' := k) (n' := n) (x_swear l h.2.2 h.1 (xs (i + 1)) (xs (i + 2))) fF_B dL_law_711 (lw_V q903 q904 q905 q95 q906) hv_X0_swear (by decide) rfl (Nat.le_of_ble_eq_true rfl) (okl_c (ok_r (by unfold fB fA; decide)) (okl_c (ok_r (by unfold fB fA; decide)) (okl_c (ok_r (by unfold fB fA; decide)) (okl_c ok_i okl_0)))) oks_0 ⟨by have := rc_le X; omega, by have := rc_le X; omega⟩ (fun r1 X1 h2 => ?_)
  obtain ⟨e1, h1⟩ := h2
  refine V_aload_n dL_law_714 rfl ?_
  refine V_aload_n dL_law_715 rfl ?_
  refine V_iload_n dL_law_716 rfl ?_
  refine V_iconst dL_law_717 li_1 ?_
  refine V_iaddN dL_law_718 ?_
  refine V_sc dL_law_719 rfl (by omega) hL ?_
  refine V_aload_n dL_law_720 rfl ?_
  refine V_iload_n dL_law_721 rfl ?_
  refine V_iconst dL_law_722 li_2 ?_
  refine V_iaddN dL_law_723 ?_
  refine V_sc dL_law_724 rfl (by omega) hL ?_
  refine VL_mI (m_swear l G (xs (i + 1)) (xs (i + 2)) h.1) dL_law_725 (lw_V q1520 q1521 q1522 q103 q1523) hv_X5_swear (by decide) rfl (Nat.le_of_ble_eq_true rfl) (fun r2 G1 h3 => ?_)
  obtain ⟨e2, e3⟩ := h3
  rw [e3]
  exact V_icmp_eq (tgt := 1339) dL_law_728 (by decide) (fun _ => kk _ X1 (INV_q h h1 (c_swear h.1 (xs (i + 1)) (xs (i + 2))))) (fun z => absurd (e1.trans e2.symm) z)
set_option maxHeartbeats 400000 in
theorem law_19 (l : Launch) (hl : l.stackTraces = false) {Q : Option Value → xW → Prop} {G X : xSt} {L i : Nat} {xs : Nat → Int32} (h : INV G X) (hi : i + 6 ≤ L) (hL : L ≤ 384) {k n : Nat} (kk : ∀ G' X', INV G' X' → V l ML (room_1, fL, Q, xX0) 1339 [some (.ref 990), some (.ref 0), some (.ref 1000), some (.int (nI i))] [] (wL X' G' L xs) k n) : V l ML (room_1, fL, Q, xX0) 733 [some (.ref 990), some (.ref 0), some (.ref 1000), some (.int (nI i))] [] (wL X G L xs) (1802 + k) (12620 + n) := by
  refine V_aload_n dL_law_733 rfl ?_
  refine V_aload_n dL_law_734 rfl ?_
  refine V_iload_n dL_law_735 rfl ?_
  refine V_iconst dL_law_736 li_1 ?_
  refine V_iaddN dL_law_737 ?_
  refine V_sc dL_law_738 rfl (by omega) hL ?_
  refine V_aload_n dL_law_739 rfl ?_
  refine V_iload_n dL_law_740 rfl ?_
  refine V_iconst dL_law_741 li_2 ?_
  refine V_iaddN dL_law_742 ?_
  refine V_sc dL_law_743 rfl (by omega) hL ?_
  refine VL_xI (k' := k) (n' := n) (x_keep l h.2.2 h.1 (xs (i + 1)) (xs (i + 2))) fF_B dL_law_744 (lw_V q911 q912 q913 q95 q914) hv_X0_keep (by decide) rfl (Nat.le_of_ble_eq_true rfl) (okl_c (ok_r (by unfold fB fA; decide)) (okl_c (ok_r (by unfold fB fA; decide)) (okl_c (ok_r (by unfold fB fA; decide)) (okl_c ok_i okl_0)))) oks_0 ⟨by have := rc_le X; omega, by have := rc_le X; omega⟩ (fun r1 X1 h2 => ?_)
  obtain ⟨e1, h1⟩ := h2
  refine V_aload_n dL_law_747 rfl ?_
  refine V_aload_n dL_law_748 rfl ?_
  refine V_iload_n dL_law_749 rfl ?_
  refine V_iconst dL_law_750 li_1 ?_
  refine V_iaddN dL_law_751 ?_
  refine V_sc dL_law_752 rfl (by omega) hL ?_
  refine V_aload_n dL_law_753 rfl ?_
  refine V_iload_n dL_law_754 rfl ?_
  refine V_iconst dL_law_755 li_2 ?_
  refine V_iaddN dL_law_756 ?_
  refine V_sc dL_law_757 rfl (by omega) hL ?_
  refine VL_mI (m_keep l G (xs (i + 1)) (xs (i + 2)) h.1) dL_law_758 (lw_V q1528 q1529 q1530 q103 q1531) hv_X5_keep (by decide) rfl (Nat.le_of_ble_eq_true rfl) (fun r2 G1 h3 => ?_)
  obtain ⟨e2, e3⟩ := h3
  rw [e3]
  exact V_icmp_eq (tgt := 1339) dL_law_761 (by decide) (fun _ => kk _ X1 (INV_q h h1 (c_keep h.1 (xs (i + 1)) (xs (i + 2))))) (fun z => absurd (e1.trans e2.symm) z)
set_option maxHeartbeats 400000 in
theorem law_20 (l : Launch) (hl : l.stackTraces = false) {Q : Option Value → xW → Prop} {G X : xSt} {L i : Nat} {xs : Nat → Int32} (h : INV G X) (hi : i + 6 ≤ L) (hL : L ≤ 384) {k n : Nat} (kk : ∀ G' X', INV G' X' → V l ML (room_1, fL, Q, xX0) 1339 [some (.ref 990), some (.ref 0), some (.ref 1000), some (.int (nI i))] [] (wL X' G' L xs) k n) : V l ML (room_1, fL, Q, xX0) 766 [some (.ref 990), some (.ref 0), some (.ref 1000), some (.int (nI i))] [] (wL X G L xs) (1802 + k) (12620 + n) := by
  refine V_aload_n dL_law_766 rfl ?_
  refine V_aload_n dL_law_767 rfl ?_
  refine V_iload_n dL_law_768 rfl ?_
  refine V_iconst dL_law_769 li_1 ?_
  refine V_iaddN dL_law_770 ?_
  refine V_sc dL_law_771 rfl (by omega) hL ?_
  refine V_aload_n dL_law_772 rfl ?_
  refine V_iload_n dL_law_773 rfl ?_
  refine V_iconst dL_law_774 li_2 ?_
  refine V_iaddN dL_law_775 ?_
  refine V_sc dL_law_776 rfl (by omega) hL ?_
  refine VL_xI (k' := k) (n' := n) (x_due l h.2.2 h.1 (xs (i + 1)) (xs (i + 2))) fF_B dL_law_777 (lw_V q919 q920 q921 q95 q922) hv_X0_due (by decide) rfl (Nat.le_of_ble_eq_true rfl) (okl_c (ok_r (by unfold fB fA; decide)) (okl_c (ok_r (by unfold fB fA; decide)) (okl_c (ok_r (by unfold fB fA; decide)) (okl_c ok_i okl_0)))) oks_0 ⟨by have := rc_le X; omega, by have := rc_le X; omega⟩ (fun r1 X1 h2 => ?_)
  obtain ⟨e1, h1⟩ := h2
  refine V_aload_n dL_law_780 rfl ?_
  refine V_aload_n dL_law_781 rfl ?_
  refine V_iload_n dL_law_782 rfl ?_
  refine V_iconst dL_law_783 li_1 ?_
  refine V_iaddN dL_law_784 ?_
  refine V_sc dL_law_785 rfl (by omega) hL ?_
  refine V_aload_n dL_law_786 rfl ?_
  refine V_iload_n dL_law_787 rfl ?_
  refine V_iconst dL_law_788 li_2 ?_
  refine V_iaddN dL_law_789 ?_
  refine V_sc dL_law_790 rfl (by omega) hL ?_
  refine VL_mI (m_due l G (xs (i + 1)) (xs (i + 2)) h.1) dL_law_791 (lw_V q1536 q1537 q1538 q103 q1539) hv_X5_due (by decide) rfl (Nat.le_of_ble_eq_true rfl) (fun r2 G1 h3 => ?_)
  obtain ⟨e2, e3⟩ := h3
  rw [e3]
  exact V_icmp_eq (tgt := 1339) dL_law_794 (by decide) (fun _ => kk _ X1 (INV_q h h1 (c_due h.1 (xs (i + 1)) (xs (i + 2))))) (fun z => absurd (e1.trans e2.symm) z)
set_option maxHeartbeats 400000 in
theorem law_21 (l : Launch) (hl : l.stackTraces = false) {Q : Option Value → xW → Prop} {G X : xSt} {L i : Nat} {xs : Nat → Int32} (h : INV G X) (hi : i + 6 ≤ L) (hL : L ≤ 384) {k n : Nat} (kk : ∀ G' X', INV G' X' → V l ML (room_1, fL, Q, xX0) 1339 [some (.ref 990), some (.ref 0), some (.ref 1000), some (.int (nI i))] [] (wL X' G' L xs) k n) : V l ML (room_1, fL, Q, xX0) 799 [some (.ref 990), some (.ref 0), some (.ref 1000), some (.int (nI i))] [] (wL X G L xs) (1802 + k) (12620 + n) := by
  refine V_aload_n dL_law_799 rfl ?_
  refine V_aload_n dL_law_800 rfl ?_
  refine V_iload_n dL_law_801 rfl ?_
  refine V_iconst dL_law_802 li_1 ?_
  refine V_iaddN dL_law_803 ?_
  refine V_sc dL_law_804 rfl (by omega) hL ?_
  refine VL_xI (k' := k) (n' := n) (x_hush l h.2.2 h.1 (xs (i + 1))) fF_B dL_law_805 (lw_V q927 q928 q929 q95 q930) hv_X0_hush (by decide) rfl (Nat.le_of_ble_eq_true rfl) (okl_c (ok_r (by unfold fB fA; decide)) (okl_c (ok_r (by unfold fB fA; decide)) (okl_c (ok_r (by unfold fB fA; decide)) (okl_c ok_i okl_0)))) oks_0 ⟨by have := rc_le X; omega, by have := rc_le X; omega⟩ (fun r1 X1 h2 => ?_)
  obtain ⟨e1, h1⟩ := h2
  refine V_aload_n dL_law_808 rfl ?_
  refine V_aload_n dL_law_809 rfl ?_
  refine V_iload_n dL_law_810 rfl ?_
  refine V_iconst dL_law_811 li_1 ?_
  refine V_iaddN dL_law_812 ?_
  refine V_sc dL_law_813 rfl (by omega) hL ?_
  refine VL_mI (m_hush l G (xs (i + 1)) h.1) dL_law_814 (lw_V q1544 q1545 q1546 q103 q1547) hv_X5_hush (by decide) rfl (Nat.le_of_ble_eq_true rfl) (fun r2 G1 h3 => ?_)
  obtain ⟨e2, e3⟩ := h3
  rw [e3]
  exact V_icmp_eq (tgt := 1339) dL_law_817 (by decide) (fun _ => kk _ X1 (INV_q h h1 (c_hush h.1 (xs (i + 1))))) (fun z => absurd (e1.trans e2.symm) z)
set_option maxHeartbeats 400000 in
theorem law_22 (l : Launch) (hl : l.stackTraces = false) {Q : Option Value → xW → Prop} {G X : xSt} {L i : Nat} {xs : Nat → Int32} (h : INV G X) (hi : i + 6 ≤ L) (hL : L ≤ 384) {k n : Nat} (kk : ∀ G' X', INV G' X' → V l ML (room_1, fL, Q, xX0) 1339 [some (.ref 990), some (.ref 0), some (.ref 1000), some (.int (nI i))] [] (wL X' G' L xs) k n) : V l ML (room_1, fL, Q, xX0) 822 [some (.ref 990), some (.ref 0), some (.ref 1000), some (.int (nI i))] [] (wL X G L xs) (1802 + k) (12620 + n) := by
  refine V_aload_n dL_law_822 rfl ?_
  refine V_aload_n dL_law_823 rfl ?_
  refine V_iload_n dL_law_824 rfl ?_
  refine V_iconst dL_law_825 li_1 ?_
  refine V_iaddN dL_law_826 ?_
  refine V_sc dL_law_827 rfl (by omega) hL ?_
  refine V_aload_n dL_law_828 rfl ?_
  refine V_iload_n dL_law_829 rfl ?_
  refine V_iconst dL_law_830 li_2 ?_
  refine V_iaddN dL_law_831 ?_
  refine V_sc dL_law_832 rfl (by omega) hL ?_
  refine V_aload_n dL_law_833 rfl ?_
  refine V_iload_n dL_law_834 rfl ?_
  refine V_iconst dL_law_835 li_3 ?_
  refine V_iaddN dL_law_836 ?_
  refine V_sc dL_law_837 rfl (by omega) hL ?_
  refine VL_xI (k' := k) (n' := n) (x_seen l h.2.2 h.1 (xs (i + 1)) (xs (i + 2)) (xs (i + 3))) (aF_B (by decide)) dL_law_838 (lw_V q940 q941 q942 q95 q943) hv_X0_seen (by decide) rfl (Nat.le_of_ble_eq_true rfl) (okl_c (ok_r (by unfold fB fA; decide)) (okl_c (ok_r (by unfold fB fA; decide)) (okl_c (ok_r (by unfold fB fA; decide)) (okl_c ok_i okl_0)))) oks_0 ⟨by omega, by omega⟩ (fun r1 X1 h2 => ?_)
  obtain ⟨e1, h1⟩ := h2
  refine V_aload_n dL_law_841 rfl ?_
  refine V_aload_n dL_law_842 rfl ?_
  refine V_iload_n dL_law_843 rfl ?_
  refine V_iconst dL_law_844 li_1 ?_
  refine V_iaddN dL_law_845 ?_
  refine V_sc dL_law_846 rfl (by omega) hL ?_
  refine V_aload_n dL_law_847 rfl ?_
  refine V_iload_n dL_law_848 rfl ?_
  refine V_iconst dL_law_849 li_2 ?_
  refine V_iaddN dL_law_850 ?_
  refine V_sc dL_law_851 rfl (by omega) hL ?_
  refine V_aload_n dL_law_852 rfl ?_
  refine V_iload_n dL_law_853 rfl ?_
  refine V_iconst dL_law_854 li_3 ?_
  refine V_iaddN dL_law_855 ?_
  refine V_sc dL_law_856 rfl (by omega) hL ?_
  refine VL_mI (m_seen l G (xs (i + 1)) (xs (i + 2)) (xs (i + 3)) h.1.2.2.2.2.2.2.2.2.2.1) dL_law_857 (lw_V q1560 q1561 q1562 q103 q1563) hv_X5_seen (by decide) rfl (Nat.le_of_ble_eq_true rfl) (fun r2 G1 h3 => ?_)
  obtain ⟨e2, e3⟩ := h3
  rw [e3]
  exact V_icmp_eq (tgt := 1339) dL_law_860 (by decide) (fun _ => kk _ X1 (INV_k h h1 (MI_seen h.1 (xs (i + 1)) (xs (i + 2)) (xs (i + 3))) (k_add3 (by decide) (by decide) (xs (i + 1)) (xs (i + 2)) (xs (i + 3))))) (fun z => absurd (e1.trans e2.symm) z)
set_option maxHeartbeats 400000 in
theorem law_23 (l : Launch) (hl : l.stackTraces = false) {Q : Option Value → xW → Prop} {G X : xSt} {L i : Nat} {xs : Nat → Int32} (h : INV G X) (hi : i + 6 ≤ L) (hL : L ≤ 384) {k n : Nat} (kk : ∀ G' X', INV G' X' → V l ML (room_1, fL, Q, xX0) 1339 [some (.ref 990), some (.ref 0), some (.ref 1000), some (.int (nI i))] [] (wL X' G' L xs) k n) : V l ML (room_1, fL, Q, xX0) 865 [some (.ref 990), some (.ref 0), some (.ref 1000), some (.int (nI i))] [] (wL X G L xs) (1802 + k) (12620 + n) := by
  refine V_aload_n dL_law_865 rfl ?_
  refine VL_xI (k' := k) (n' := n) (x_forget l h.2.2 h.1) x0_B dL_law_866 (lw_V q945 q946 q947 q95 q948) hv_X0_forget (by decide) rfl (Nat.le_of_ble_eq_true rfl) (okl_c (ok_r (by unfold fB fA; decide)) (okl_c (ok_r (by unfold fB fA; decide)) (okl_c (ok_r (by unfold fB fA; decide)) (okl_c ok_i okl_0)))) oks_0 ⟨by omega, by omega⟩ (fun r1 X1 h2 => ?_)
  obtain ⟨e1, h1⟩ := h2
  refine V_aload_n dL_law_869 rfl ?_
  refine VL_mI (m_forget l G ) dL_law_870 (lw_V q1564 q1565 q1566 q103 q1567) hv_X5_forget (by decide) rfl (Nat.le_of_ble_eq_true rfl) (fun r2 G1 h3 => ?_)
  obtain ⟨e2, e3⟩ := h3
  rw [e3]
  exact V_icmp_eq (tgt := 1339) dL_law_873 (by decide) (fun _ => kk _ X1 (INV_k h h1 (MI_forget h.1) k_forget)) (fun z => absurd (e1.trans e2.symm) z)
set_option maxHeartbeats 400000 in
theorem law_24 (l : Launch) (hl : l.stackTraces = false) {Q : Option Value → xW → Prop} {G X : xSt} {L i : Nat} {xs : Nat → Int32} (h : INV G X) (hi : i + 6 ≤ L) (hL : L ≤ 384) {k n : Nat} (kk : ∀ G' X', INV G' X' → V l ML (room_1, fL, Q, xX0) 1339 [some (.ref 990), some (.ref 0), some (.ref 1000), some (.int (nI i))] [] (wL X' G' L xs) k n) : V l ML (room_1, fL, Q, xX0) 878 [some (.ref 990), some (.ref 0), some (.ref 1000), some (.int (nI i))] [] (wL X G L xs) (1802 + k) (12620 + n) := by
  refine V_aload_n dL_law_878 rfl ?_
  refine VL_xI (k' := k) (n' := n) (x_never l h.2.2 h.1) fF_B dL_law_879 (lw_V q950 q951 q952 q95 q953) hv_X0_never (by decide) rfl (Nat.le_of_ble_eq_true rfl) (okl_c (ok_r (by unfold fB fA; decide)) (okl_c (ok_r (by unfold fB fA; decide)) (okl_c (ok_r (by unfold fB fA; decide)) (okl_c ok_i okl_0)))) oks_0 ⟨by have := rc_le X; omega, by have := rc_le X; omega⟩ (fun r1 X1 h2 => ?_)
  obtain ⟨e1, h1⟩ := h2
  refine V_aload_n dL_law_882 rfl ?_
  refine VL_mI (m_never l G h.1) dL_law_883 (lw_V q1568 q1569 q1570 q103 q1571) hv_X5_never (by decide) rfl (Nat.le_of_ble_eq_true rfl) (fun r2 G1 h3 => ?_)
  obtain ⟨e2, e3⟩ := h3
  rw [e3]
  exact V_icmp_eq (tgt := 1339) dL_law_886 (by decide) (fun _ => kk _ X1 (INV_q h h1 (c_never h.1))) (fun z => absurd (e1.trans e2.symm) z)
set_option maxHeartbeats 400000 in
theorem law_25 (l : Launch) (hl : l.stackTraces = false) {Q : Option Value → xW → Prop} {G X : xSt} {L i : Nat} {xs : Nat → Int32} (h : INV G X) (hi : i + 6 ≤ L) (hL : L ≤ 384) {k n : Nat} (kk : ∀ G' X', INV G' X' → V l ML (room_1, fL, Q, xX0) 1339 [some (.ref 990), some (.ref 0), some (.ref 1000), some (.int (nI i))] [] (wL X' G' L xs) k n) : V l ML (room_1, fL, Q, xX0) 891 [some (.ref 990), some (.ref 0), some (.ref 1000), some (.int (nI i))] [] (wL X G L xs) (1802 + k) (12620 + n) := by
  refine V_aload_n dL_law_891 rfl ?_
  refine V_aload_n dL_law_892 rfl ?_
  refine V_iload_n dL_law_893 rfl ?_
  refine V_iconst dL_law_894 li_1 ?_
  refine V_iaddN dL_law_895 ?_
  refine V_sc dL_law_896 rfl (by omega) hL ?_
  refine V_aload_n dL_law_897 rfl ?_
  refine V_iload_n dL_law_898 rfl ?_
  refine V_iconst dL_law_899 li_2 ?_
  refine V_iaddN dL_law_900 ?_
  refine V_sc dL_law_901 rfl (by omega) hL ?_
  refine VL_xI (k' := k) (n' := n) (x_was l h.2.2 h.1 (xs (i + 1)) (xs (i + 2))) fF_B dL_law_902 (lw_V q962 q963 q964 q95 q965) hv_X0_was (by decide) rfl (Nat.le_of_ble_eq_true rfl) (okl_c (ok_r (by unfold fB fA; decide)) (okl_c (ok_r (by unfold fB fA; decide)) (okl_c (ok_r (by unfold fB fA; decide)) (okl_c ok_i okl_0)))) oks_0 ⟨by have := rc_le X; omega, by have := rc_le X; omega⟩ (fun r1 X1 h2 => ?_)
  obtain ⟨e1, h1⟩ := h2
  refine V_aload_n dL_law_905 rfl ?_
  refine V_aload_n dL_law_906 rfl ?_
  refine V_iload_n dL_law_907 rfl ?_
  refine V_iconst dL_law_908 li_1 ?_
  refine V_iaddN dL_law_909 ?_
  refine V_sc dL_law_910 rfl (by omega) hL ?_
  refine V_aload_n dL_law_911 rfl ?_
  refine V_iload_n dL_law_912 rfl ?_
  refine V_iconst dL_law_913 li_2 ?_
  refine V_iaddN dL_law_914 ?_
  refine V_sc dL_law_915 rfl (by omega) hL ?_
  refine VL_mI (m_was l G (xs (i + 1)) (xs (i + 2)) h.1) dL_law_916 (lw_V q1580 q1581 q1582 q103 q1583) hv_X5_was (by decide) rfl (Nat.le_of_ble_eq_true rfl) (fun r2 G1 h3 => ?_)
  obtain ⟨e2, e3⟩ := h3
  rw [e3]
  exact V_icmp_eq (tgt := 1339) dL_law_919 (by decide) (fun _ => kk _ X1 (INV_q h h1 (c_was h.1 (xs (i + 1)) (xs (i + 2))))) (fun z => absurd (e1.trans e2.symm) z)
set_option maxHeartbeats 400000 in
theorem law_26 (l : Launch) (hl : l.stackTraces = false) {Q : Option Value → xW → Prop} {G X : xSt} {L i : Nat} {xs : Nat → Int32} (h : INV G X) (hi : i + 6 ≤ L) (hL : L ≤ 384) {k n : Nat} (kk : ∀ G' X', INV G' X' → V l ML (room_1, fL, Q, xX0) 1339 [some (.ref 990), some (.ref 0), some (.ref 1000), some (.int (nI i))] [] (wL X' G' L xs) k n) : V l ML (room_1, fL, Q, xX0) 924 [some (.ref 990), some (.ref 0), some (.ref 1000), some (.int (nI i))] [] (wL X G L xs) (1802 + k) (12620 + n) := by
  refine V_aload_n dL_law_924 rfl ?_
  refine V_aload_n dL_law_925 rfl ?_
  refine V_iload_n dL_law_926 rfl ?_
  refine V_iconst dL_law_927 li_1 ?_
  refine V_iaddN dL_law_928 ?_
  refine V_sc dL_law_929 rfl (by omega) hL ?_
  refine VL_xI (k' := k) (n' := n) (x_ask l h.2.2 h.1 (xs (i + 1))) fF_B dL_law_930 (lw_V q979 q980 q981 q95 q982) hv_X0_ask (by decide) rfl (Nat.le_of_ble_eq_true rfl) (okl_c (ok_r (by unfold fB fA; decide)) (okl_c (ok_r (by unfold fB fA; decide)) (okl_c (ok_r (by unfold fB fA; decide)) (okl_c ok_i okl_0)))) oks_0 ⟨by have := rc_le X; omega, by have := rc_le X; omega⟩ (fun r1 X1 h2 => ?_)
  obtain ⟨e1, h1⟩ := h2
  refine V_aload_n dL_law_933 rfl ?_
  refine V_aload_n dL_law_934 rfl ?_
  refine V_iload_n dL_law_935 rfl ?_
  refine V_iconst dL_law_936 li_1 ?_
  refine V_iaddN dL_law_937 ?_
  refine V_sc dL_law_938 rfl (by omega) hL ?_
  refine VL_mI (m_ask l G (xs (i + 1)) h.1) dL_law_939 (lw_V q1592 q1593 q1594 q103 q1595) hv_X5_ask (by decide) rfl (Nat.le_of_ble_eq_true rfl) (fun r2 G1 h3 => ?_)
  obtain ⟨e2, e3⟩ := h3
  rw [e3]
  exact V_icmp_eq (tgt := 1339) dL_law_942 (by decide) (fun _ => kk _ X1 (INV_q h h1 (c_ask h.1 (xs (i + 1))))) (fun z => absurd (e1.trans e2.symm) z)
set_option maxHeartbeats 400000 in
theorem law_27 (l : Launch) (hl : l.stackTraces = false) {Q : Option Value → xW → Prop} {G X : xSt} {L i : Nat} {xs : Nat → Int32} (h : INV G X) (hi : i + 6 ≤ L) (hL : L ≤ 384) {k n : Nat} (kk : ∀ G' X', INV G' X' → V l ML (room_1, fL, Q, xX0) 1339 [some (.ref 990), some (.ref 0), some (.ref 1000), some (.int (nI i))] [] (wL X' G' L xs) k n) : V l ML (room_1, fL, Q, xX0) 947 [some (.ref 990), some (.ref 0), some (.ref 1000), some (.int (nI i))] [] (wL X G L xs) (1802 + k) (12620 + n) := by
  refine V_aload_n dL_law_947 rfl ?_
  refine V_aload_n dL_law_948 rfl ?_
  refine V_iload_n dL_law_949 rfl ?_
  refine V_iconst dL_law_950 li_1 ?_
  refine V_iaddN dL_law_951 ?_
  refine V_sc dL_law_952 rfl (by omega) hL ?_
  refine V_aload_n dL_law_953 rfl ?_
  refine V_iload_n dL_law_954 rfl ?_
  refine V_iconst dL_law_955 li_2 ?_
  refine V_iaddN dL_law_956 ?_
  refine V_sc dL_law_957 rfl (by omega) hL ?_
  refine V_aload_n dL_law_958 rfl ?_
  refine V_iload_n dL_law_959 rfl ?_
  refine V_iconst dL_law_960 li_3 ?_
  refine V_iaddN dL_law_961 ?_
  refine V_sc dL_law_962 rfl (by omega) hL ?_
  refine V_aload_n dL_law_963 rfl ?_
  refine V_iload_n dL_law_964 rfl ?_
  refine V_iconst dL_law_965 li_4 ?_
  refine V_iaddN dL_law_966 ?_
  refine V_sc dL_law_967 rfl (by omega) hL ?_
  refine VL_xL (k' := k) (n' := n) (x_word l h.2.2 h.1 (xs (i + 1)) (xs (i + 2)) (xs (i + 3)) (xs (i + 4))) fF_B dL_law_968 (lw_V q991 q992 q993 q95 q994) hv_X0_word (by decide) rfl (Nat.le_of_ble_eq_true rfl) (okl_c (ok_r (by unfold fB fA; decide)) (okl_c (ok_r (by unfold fB fA; decide)) (okl_c (ok_r (by unfold fB fA; decide)) (okl_c ok_i okl_0)))) oks_0 ⟨by have := rc_le X; omega, by have := rc_le X; omega⟩ (fun r1 X1 h2 => ?_)
  obtain ⟨e1, h1⟩ := h2
  refine V_aload_n dL_law_971 rfl ?_
  refine V_aload_n dL_law_972 rfl ?_
  refine V_iload_n dL_law_973 rfl ?_
  refine V_iconst dL_law_974 li_1 ?_
  refine V_iaddN dL_law_975 ?_
  refine V_sc dL_law_976 rfl (by omega) hL ?_
  refine V_aload_n dL_law_977 rfl ?_
  refine V_iload_n dL_law_978 rfl ?_
  refine V_iconst dL_law_979 li_2 ?_
  refine V_iaddN dL_law_980 ?_
  refine V_sc dL_law_981 rfl (by omega) hL ?_
  refine V_aload_n dL_law_982 rfl ?_
  refine V_iload_n dL_law_983 rfl ?_
  refine V_iconst dL_law_984 li_3 ?_
  refine V_iaddN dL_law_985 ?_
  refine V_sc dL_law_986 rfl (by omega) hL ?_
  refine V_aload_n dL_law_987 rfl ?_
  refine V_iload_n dL_law_988 rfl ?_
  refine V_iconst dL_law_989 li_4 ?_
  refine V_iaddN dL_law_990 ?_
  refine V_sc dL_law_991 rfl (by omega) hL ?_
  refine VL_mL (m_word l G (xs (i + 1)) (xs (i + 2)) (xs (i + 3)) (xs (i + 4)) h.1) dL_law_992 (lw_V q1600 q1601 q1602 q103 q1603) hv_X5_word (by decide) rfl (Nat.le_of_ble_eq_true rfl) (fun r2 G1 h3 => ?_)
  obtain ⟨e2, e3⟩ := h3
  rw [e3]
  refine V_lcmp dL_law_995 ?_
  exact V_if_eq (tgt := 1339) dL_law_996 (by decide) (fun _ => kk _ X1 (INV_q h h1 (c_word h.1 (xs (i + 1)) (xs (i + 2)) (xs (i + 3)) (xs (i + 4))))) (fun z => absurd (by rw [e1, e2]; exact lg_cmp_self _) z)
set_option maxHeartbeats 400000 in
theorem law_28 (l : Launch) (hl : l.stackTraces = false) {Q : Option Value → xW → Prop} {G X : xSt} {L i : Nat} {xs : Nat → Int32} (h : INV G X) (hi : i + 6 ≤ L) (hL : L ≤ 384) {k n : Nat} (kk : ∀ G' X', INV G' X' → V l ML (room_1, fL, Q, xX0) 1339 [some (.ref 990), some (.ref 0), some (.ref 1000), some (.int (nI i))] [] (wL X' G' L xs) k n) : V l ML (room_1, fL, Q, xX0) 1001 [some (.ref 990), some (.ref 0), some (.ref 1000), some (.int (nI i))] [] (wL X G L xs) (1802 + k) (12620 + n) := by
  refine V_aload_n dL_law_1001 rfl ?_
  refine V_aload_n dL_law_1002 rfl ?_
  refine V_iload_n dL_law_1003 rfl ?_
  refine V_iconst dL_law_1004 li_1 ?_
  refine V_iaddN dL_law_1005 ?_
  refine V_sc dL_law_1006 rfl (by omega) hL ?_
  refine V_aload_n dL_law_1007 rfl ?_
  refine V_iload_n dL_law_1008 rfl ?_
  refine V_iconst dL_law_1009 li_2 ?_
  refine V_iaddN dL_law_1010 ?_
  refine V_sc dL_law_1011 rfl (by omega) hL ?_
  refine V_aload_n dL_law_1012 rfl ?_
  refine V_iload_n dL_law_1013 rfl ?_
  refine V_iconst dL_law_1014 li_3 ?_
  refine V_iaddN dL_law_1015 ?_
  refine V_sc dL_law_1016 rfl (by omega) hL ?_
  refine VL_xI (k' := k) (n' := n) (x_year l h.2.2 h.1 (xs (i + 1)) (xs (i + 2)) (xs (i + 3))) fG_B dL_law_1017 (lw_V q1010 q1011 q1012 q95 q1013) hv_X0_year (by decide) rfl (Nat.le_of_ble_eq_true rfl) (okl_c (ok_r (by unfold fB fA; decide)) (okl_c (ok_r (by unfold fB fA; decide)) (okl_c (ok_r (by unfold fB fA; decide)) (okl_c ok_i okl_0)))) oks_0 ⟨by have := rc_le X; omega, by have := rc_le X; omega⟩ (fun r1 X1 h2 => ?_)
  obtain ⟨e1, h1⟩ := h2
  refine V_aload_n dL_law_1020 rfl ?_
  refine V_aload_n dL_law_1021 rfl ?_
  refine V_iload_n dL_law_1022 rfl ?_
  refine V_iconst dL_law_1023 li_1 ?_
  refine V_iaddN dL_law_1024 ?_
  refine V_sc dL_law_1025 rfl (by omega) hL ?_
  refine V_aload_n dL_law_1026 rfl ?_
  refine V_iload_n dL_law_1027 rfl ?_
  refine V_iconst dL_law_1028 li_2 ?_
  refine V_iaddN dL_law_1029 ?_
  refine V_sc dL_law_1030 rfl (by omega) hL ?_
  refine V_aload_n dL_law_1031 rfl ?_
  refine V_iload_n dL_law_1032 rfl ?_
  refine V_iconst dL_law_1033 li_3 ?_
  refine V_iaddN dL_law_1034 ?_
  refine V_sc dL_law_1035 rfl (by omega) hL ?_
  refine VL_mI (m_year l G (xs (i + 1)) (xs (i + 2)) (xs (i + 3)) h.1) dL_law_1036 (lw_V q1615 q1616 q1617 q103 q1618) hv_X5_year (by decide) rfl (Nat.le_of_ble_eq_true rfl) (fun r2 G1 h3 => ?_)
  obtain ⟨e2, e3⟩ := h3
  rw [e3]
  exact V_icmp_eq (tgt := 1339) dL_law_1039 (by decide) (fun _ => kk _ X1 (INV_q h h1 (c_year h.1 (xs (i + 1)) (xs (i + 2)) (xs (i + 3))))) (fun z => absurd (e1.trans e2.symm) z)
set_option maxHeartbeats 400000 in
theorem law_29 (l : Launch) (hl : l.stackTraces = false) {Q : Option Value → xW → Prop} {G X : xSt} {L i : Nat} {xs : Nat → Int32} (h : INV G X) (hi : i + 6 ≤ L) (hL : L ≤ 384) {k n : Nat} (kk : ∀ G' X', INV G' X' → V l ML (room_1, fL, Q, xX0) 1339 [some (.ref 990), some (.ref 0), some (.ref 1000), some (.int (nI i))] [] (wL X' G' L xs) k n) : V l ML (room_1, fL, Q, xX0) 1044 [some (.ref 990), some (.ref 0), some (.ref 1000), some (.int (nI i))] [] (wL X G L xs) (1802 + k) (12620 + n) := by
  refine V_aload_n dL_law_1044 rfl ?_
  refine V_aload_n dL_law_1045 rfl ?_
  refine V_iload_n dL_law_1046 rfl ?_
  refine V_iconst dL_law_1047 li_1 ?_
  refine V_iaddN dL_law_1048 ?_
  refine V_sc dL_law_1049 rfl (by omega) hL ?_
  refine V_aload_n dL_law_1050 rfl ?_
  refine V_iload_n dL_law_1051 rfl ?_
  refine V_iconst dL_law_1052 li_2 ?_
  refine V_iaddN dL_law_1053 ?_
  refine V_sc dL_law_1054 rfl (by omega) hL ?_
  refine V_aload_n dL_law_1055 rfl ?_
  refine V_iload_n dL_law_1056 rfl ?_
  refine V_iconst dL_law_1057 li_3 ?_
  refine V_iaddN dL_law_1058 ?_
  refine V_sc dL_law_1059 rfl (by omega) hL ?_
  refine VL_xIW (k' := k) (n' := n) (x_sheet l hl h.2.2 h.1 (xs (i + 1)) (xs (i + 2)) (xs (i + 3))) sG_B dL_law_1060 (lw_VW q1028 q1029 q1030 q95 q1031) hv_X0_sheet (by decide) rfl (Nat.le_of_ble_eq_true rfl) (okl_c (ok_r (by unfold fB fA; decide)) (okl_c (ok_r (by unfold fB fA; decide)) (okl_c (ok_r (by unfold fB fA; decide)) (okl_c ok_i okl_0)))) oks_0 ⟨by omega, by omega⟩ (fun r1 X1 h2 => ?_)
  obtain ⟨e1, h1⟩ := h2
  refine V_aload_n dL_law_1063 rfl ?_
  refine V_aload_n dL_law_1064 rfl ?_
  refine V_iload_n dL_law_1065 rfl ?_
  refine V_iconst dL_law_1066 li_1 ?_
  refine V_iaddN dL_law_1067 ?_
  refine V_sc dL_law_1068 rfl (by omega) hL ?_
  refine V_aload_n dL_law_1069 rfl ?_
  refine V_iload_n dL_law_1070 rfl ?_
  refine V_iconst dL_law_1071 li_2 ?_
  refine V_iaddN dL_law_1072 ?_
  refine V_sc dL_law_1073 rfl (by omega) hL ?_
  refine V_aload_n dL_law_1074 rfl ?_
  refine V_iload_n dL_law_1075 rfl ?_
  refine V_iconst dL_law_1076 li_3 ?_
  refine V_iaddN dL_law_1077 ?_
  refine V_sc dL_law_1078 rfl (by omega) hL ?_
  refine VL_mI (m_sheet l G (xs (i + 1)) (xs (i + 2)) (xs (i + 3))) dL_law_1079 (lw_V q1624 q1625 q1626 q103 q1627) hv_X5_sheet (by decide) rfl (Nat.le_of_ble_eq_true rfl) (fun r2 G1 h3 => ?_)
  obtain ⟨e2, e3⟩ := h3
  rw [e3]
  exact V_icmp_eq (tgt := 1339) dL_law_1082 (by decide) (fun _ => kk _ X1 (⟨MI_sheet h.1 (xs (i + 1)) (xs (i + 2)) (xs (i + 3)), fi_sheet h.2.1 (xs (i + 1)) (xs (i + 2)) (xs (i + 3)), h1⟩)) (fun z => absurd (e1.trans e2.symm) z)
set_option maxHeartbeats 400000 in
theorem law_30 (l : Launch) (hl : l.stackTraces = false) {Q : Option Value → xW → Prop} {G X : xSt} {L i : Nat} {xs : Nat → Int32} (h : INV G X) (hi : i + 6 ≤ L) (hL : L ≤ 384) {k n : Nat} (kk : ∀ G' X', INV G' X' → V l ML (room_1, fL, Q, xX0) 1339 [some (.ref 990), some (.ref 0), some (.ref 1000), some (.int (nI i))] [] (wL X' G' L xs) k n) : V l ML (room_1, fL, Q, xX0) 1087 [some (.ref 990), some (.ref 0), some (.ref 1000), some (.int (nI i))] [] (wL X G L xs) (1802 + k) (12620 + n) := by
  refine V_aload_n dL_law_1087 rfl ?_
  refine V_aload_n dL_law_1088 rfl ?_
  refine V_iload_n dL_law_1089 rfl ?_
  refine V_iconst dL_law_1090 li_1 ?_
  refine V_iaddN dL_law_1091 ?_
  refine V_sc dL_law_1092 rfl (by omega) hL ?_
  refine VL_xI (k' := k) (n' := n) (x_lose l h.2.2 h.1 (xs (i + 1))) x0_B dL_law_1093 (lw_V q1065 q1066 q1067 q95 q1068) hv_X0_lose (by decide) rfl (Nat.le_of_ble_eq_true rfl) (okl_c (ok_r (by unfold fB fA; decide)) (okl_c (ok_r (by unfold fB fA; decide)) (okl_c (ok_r (by unfold fB fA; decide)) (okl_c ok_i okl_0)))) oks_0 ⟨by omega, by omega⟩ (fun r1 X1 h2 => ?_)
  obtain ⟨e1, h1⟩ := h2
  refine V_aload_n dL_law_1096 rfl ?_
  refine V_aload_n dL_law_1097 rfl ?_
  refine V_iload_n dL_law_1098 rfl ?_
  refine V_iconst dL_law_1099 li_1 ?_
  refine V_iaddN dL_law_1100 ?_
  refine V_sc dL_law_1101 rfl (by omega) hL ?_
  refine VL_mI (m_lose l G (xs (i + 1))) dL_law_1102 (lw_V q1628 q1629 q1630 q103 q1631) hv_X5_lose (by decide) rfl (Nat.le_of_ble_eq_true rfl) (fun r2 G1 h3 => ?_)
  obtain ⟨e2, e3⟩ := h3
  rw [e3]
  exact V_icmp_eq (tgt := 1339) dL_law_1105 (by decide) (fun _ => kk _ X1 (INV_k h h1 (MI_lose h.1 (xs (i + 1))) (k_lose (xs (i + 1))))) (fun z => absurd (e1.trans e2.symm) z)
set_option maxHeartbeats 400000 in
theorem law_31 (l : Launch) (hl : l.stackTraces = false) {Q : Option Value → xW → Prop} {G X : xSt} {L i : Nat} {xs : Nat → Int32} (h : INV G X) (hi : i + 6 ≤ L) (hL : L ≤ 384) {k n : Nat} (kk : ∀ G' X', INV G' X' → V l ML (room_1, fL, Q, xX0) 1339 [some (.ref 990), some (.ref 0), some (.ref 1000), some (.int (nI i))] [] (wL X' G' L xs) k n) : V l ML (room_1, fL, Q, xX0) 1110 [some (.ref 990), some (.ref 0), some (.ref 1000), some (.int (nI i))] [] (wL X G L xs) (1802 + k) (12620 + n) := by
  refine V_aload_n dL_law_1110 rfl ?_
  refine V_aload_n dL_law_1111 rfl ?_
  refine V_iload_n dL_law_1112 rfl ?_
  refine V_iconst dL_law_1113 li_1 ?_
  refine V_iaddN dL_law_1114 ?_
  refine V_sc dL_law_1115 rfl (by omega) hL ?_
  refine V_aload_n dL_law_1116 rfl ?_
  refine V_iload_n dL_law_1117 rfl ?_
  refine V_iconst dL_law_1118 li_2 ?_
  refine V_iaddN dL_law_1119 ?_
  refine V_sc dL_law_1120 rfl (by omega) hL ?_
  refine V_aload_n dL_law_1121 rfl ?_
  refine V_iload_n dL_law_1122 rfl ?_
  refine V_iconst dL_law_1123 li_3 ?_
  refine V_iaddN dL_law_1124 ?_
  refine V_sc dL_law_1125 rfl (by omega) hL ?_
  refine V_aload_n dL_law_1126 rfl ?_
  refine V_iload_n dL_law_1127 rfl ?_
  refine V_iconst dL_law_1128 li_4 ?_
  refine V_iaddN dL_law_1129 ?_
  refine V_sc dL_law_1130 rfl (by omega) hL ?_
  refine VL_xIW (k' := k) (n' := n) (x_put l hl h.2.2 h.1 h.2.1.1 (xs (i + 1)) (xs (i + 2)) (xs (i + 3)) (xs (i + 4))) F36_B dL_law_1131 (lw_VW q1069 q1070 q1071 q95 q1072) hv_X0_put (by decide) rfl (Nat.le_of_ble_eq_true rfl) (okl_c (ok_r (by unfold fB fA; decide)) (okl_c (ok_r (by unfold fB fA; decide)) (okl_c (ok_r (by unfold fB fA; decide)) (okl_c ok_i okl_0)))) oks_0 ⟨by omega, by omega⟩ (fun r1 X1 h2 => ?_)
  obtain ⟨e1, h1⟩ := h2
  refine V_aload_n dL_law_1134 rfl ?_
  refine V_aload_n dL_law_1135 rfl ?_
  refine V_iload_n dL_law_1136 rfl ?_
  refine V_iconst dL_law_1137 li_1 ?_
  refine V_iaddN dL_law_1138 ?_
  refine V_sc dL_law_1139 rfl (by omega) hL ?_
  refine V_aload_n dL_law_1140 rfl ?_
  refine V_iload_n dL_law_1141 rfl ?_
  refine V_iconst dL_law_1142 li_2 ?_
  refine V_iaddN dL_law_1143 ?_
  refine V_sc dL_law_1144 rfl (by omega) hL ?_
  refine V_aload_n dL_law_1145 rfl ?_
  refine V_iload_n dL_law_1146 rfl ?_
  refine V_iconst dL_law_1147 li_3 ?_
  refine V_iaddN dL_law_1148 ?_
  refine V_sc dL_law_1149 rfl (by omega) hL ?_
  refine V_aload_n dL_law_1150 rfl ?_
  refine V_iload_n dL_law_1151 rfl ?_
  refine V_iconst dL_law_1152 li_4 ?_
  refine V_iaddN dL_law_1153 ?_
  refine V_sc dL_law_1154 rfl (by omega) hL ?_
  refine VL_mI (m_put l G (xs (i + 1)) (xs (i + 2)) (xs (i + 3)) (xs (i + 4)) h.1.2.2.2.2.2.2.2.2.2.2.2.2) dL_law_1155 (lw_V q1632 q1633 q1634 q103 q1635) hv_X5_put (by decide) rfl (Nat.le_of_ble_eq_true rfl) (fun r2 G1 h3 => ?_)
  obtain ⟨e2, e3⟩ := h3
  rw [e3]
  exact V_icmp_eq (tgt := 1339) dL_law_1158 (by decide) (fun _ => kk _ X1 (⟨MI_put h.1 (xs (i + 1)) (xs (i + 2)) (xs (i + 3)) (xs (i + 4)), fi_put h.1 h.2.1 (xs (i + 1)) (xs (i + 2)) (xs (i + 3)) (xs (i + 4)), h1⟩)) (fun z => absurd (e1.trans e2.symm) z)
set_option maxHeartbeats 400000 in
theorem law_32 (l : Launch) (hl : l.stackTraces = false) {Q : Option Value → xW → Prop} {G X : xSt} {L i : Nat} {xs : Nat → Int32} (h : INV G X) (hi : i + 6 ≤ L) (hL : L ≤ 384) {k n : Nat} (kk : ∀ G' X', INV G' X' → V l ML (room_1, fL, Q, xX0) 1339 [some (.ref 990), some (.ref 0), some (.ref 1000), some (.int (nI i))] [] (wL X' G' L xs) k n) : V l ML (room_1, fL, Q, xX0) 1163 [some (.ref 990), some (.ref 0), some (.ref 1000), some (.int (nI i))] [] (wL X G L xs) (1802 + k) (12620 + n) := by
  refine V_aload_n dL_law_1163 rfl ?_
  refine V_aload_n dL_law_1164 rfl ?_
  refine V_iload_n dL_law_1165 rfl ?_
  refine V_iconst dL_law_1166 li_1 ?_
  refine V_iaddN dL_law_1167 ?_
  refine V_sc dL_law_1168 rfl (by omega) hL ?_
  refine V_aload_n dL_law_1169 rfl ?_
  refine V_iload_n dL_law_1170 rfl ?_
  refine V_iconst dL_law_1171 li_2 ?_
  refine V_iaddN dL_law_1172 ?_
  refine V_sc dL_law_1173 rfl (by omega) hL ?_
  refine V_aload_n dL_law_1174 rfl ?_
  refine V_iload_n dL_law_1175 rfl ?_
  refine V_iconst dL_law_1176 li_3 ?_
  refine V_iaddN dL_law_1177 ?_
  refine V_sc dL_law_1178 rfl (by omega) hL ?_
  refine VL_xIW (k' := k) (n' := n) (x_get l hl h.2.2 h.1 h.2.1.1 (xs (i + 1)) (xs (i + 2)) (xs (i + 3))) F36_B dL_law_1179 (lw_VW q1110 q1111 q1112 q95 q1113) hv_X0_get (by decide) rfl (Nat.le_of_ble_eq_true rfl) (okl_c (ok_r (by unfold fB fA; decide)) (okl_c (ok_r (by unfold fB fA; decide)) (okl_c (ok_r (by unfold fB fA; decide)) (okl_c ok_i okl_0)))) oks_0 ⟨by omega, by omega⟩ (fun r1 X1 h2 => ?_)
  obtain ⟨e1, h1⟩ := h2
  refine V_aload_n dL_law_1182 rfl ?_
  refine V_aload_n dL_law_1183 rfl ?_
  refine V_iload_n dL_law_1184 rfl ?_
  refine V_iconst dL_law_1185 li_1 ?_
  refine V_iaddN dL_law_1186 ?_
  refine V_sc dL_law_1187 rfl (by omega) hL ?_
  refine V_aload_n dL_law_1188 rfl ?_
  refine V_iload_n dL_law_1189 rfl ?_
  refine V_iconst dL_law_1190 li_2 ?_
  refine V_iaddN dL_law_1191 ?_
  refine V_sc dL_law_1192 rfl (by omega) hL ?_
  refine V_aload_n dL_law_1193 rfl ?_
  refine V_iload_n dL_law_1194 rfl ?_
  refine V_iconst dL_law_1195 li_3 ?_
  refine V_iaddN dL_law_1196 ?_
  refine V_sc dL_law_1197 rfl (by omega) hL ?_
  refine VL_mI (m_get l G (xs (i + 1)) (xs (i + 2)) (xs (i + 3)) h.1.2.2.2.2.2.2.2.2.2.2.2.2) dL_law_1198 (lw_V q1644 q1645 q1646 q103 q1647) hv_X5_get (by decide) rfl (Nat.le_of_ble_eq_true rfl) (fun r2 G1 h3 => ?_)
  obtain ⟨e2, e3⟩ := h3
  rw [e3]
  exact V_icmp_eq (tgt := 1339) dL_law_1201 (by decide) (fun _ => kk _ X1 (INV_k h h1 (MI_get h.1 (xs (i + 1)) (xs (i + 2)) (xs (i + 3))) (k_get (xs (i + 1)) (xs (i + 2)) (xs (i + 3))))) (fun z => absurd (e1.trans e2.symm) z)
set_option maxHeartbeats 400000 in
theorem law_33 (l : Launch) (hl : l.stackTraces = false) {Q : Option Value → xW → Prop} {G X : xSt} {L i : Nat} {xs : Nat → Int32} (h : INV G X) (hi : i + 6 ≤ L) (hL : L ≤ 384) {k n : Nat} (kk : ∀ G' X', INV G' X' → V l ML (room_1, fL, Q, xX0) 1339 [some (.ref 990), some (.ref 0), some (.ref 1000), some (.int (nI i))] [] (wL X' G' L xs) k n) : V l ML (room_1, fL, Q, xX0) 1206 [some (.ref 990), some (.ref 0), some (.ref 1000), some (.int (nI i))] [] (wL X G L xs) (1802 + k) (12620 + n) := by
  refine V_aload_n dL_law_1206 rfl ?_
  refine V_aload_n dL_law_1207 rfl ?_
  refine V_iload_n dL_law_1208 rfl ?_
  refine V_iconst dL_law_1209 li_1 ?_
  refine V_iaddN dL_law_1210 ?_
  refine V_sc dL_law_1211 rfl (by omega) hL ?_
  refine V_aload_n dL_law_1212 rfl ?_
  refine V_iload_n dL_law_1213 rfl ?_
  refine V_iconst dL_law_1214 li_2 ?_
  refine V_iaddN dL_law_1215 ?_
  refine V_sc dL_law_1216 rfl (by omega) hL ?_
  refine V_aload_n dL_law_1217 rfl ?_
  refine V_iload_n dL_law_1218 rfl ?_
  refine V_iconst dL_law_1219 li_3 ?_
  refine V_iaddN dL_law_1220 ?_
  refine V_sc dL_law_1221 rfl (by omega) hL ?_
  refine V_aload_n dL_law_1222 rfl ?_
  refine V_iload_n dL_law_1223 rfl ?_
  refine V_iconst dL_law_1224 li_4 ?_
  refine V_iaddN dL_law_1225 ?_
  refine V_sc dL_law_1226 rfl (by omega) hL ?_
  refine V_aload_n dL_law_1227 rfl ?_
  refine V_iload_n dL_law_1228 rfl ?_
  refine V_iconst dL_law_1229 li_5 ?_
  refine V_iaddN dL_law_1230 ?_
  refine V_sc dL_law_1231 rfl (by omega) hL ?_
  refine VL_xIW (k' := k) (n' := n) (x_copy l hl h.2.2 h.1 h.2.1.1 h.2.1.2 (xs (i + 1)) (xs (i + 2)) (xs (i + 3)) (xs (i + 4)) (xs (i + 5))) F36_B dL_law_1232 (lw_VW q1119 q1120 q1121 q95 q1122) hv_X0_copy (by decide) rfl (Nat.le_of_ble_eq_true rfl) (okl_c (ok_r (by unfold fB fA; decide)) (okl_c (ok_r (by unfold fB fA; decide)) (okl_c (ok_r (by unfold fB fA; decide)) (okl_c ok_i okl_0)))) oks_0 ⟨by omega, by omega⟩ (fun r1 X1 h2 => ?_)
  obtain ⟨e1, h1⟩ := h2
  refine V_aload_n dL_law_1235 rfl ?_
  refine V_aload_n dL_law_1236 rfl ?_
  refine V_iload_n dL_law_1237 rfl ?_
  refine V_iconst dL_law_1238 li_1 ?_
  refine V_iaddN dL_law_1239 ?_
  refine V_sc dL_law_1240 rfl (by omega) hL ?_
  refine V_aload_n dL_law_1241 rfl ?_
  refine V_iload_n dL_law_1242 rfl ?_
  refine V_iconst dL_law_1243 li_2 ?_
  refine V_iaddN dL_law_1244 ?_
  refine V_sc dL_law_1245 rfl (by omega) hL ?_
  refine V_aload_n dL_law_1246 rfl ?_
  refine V_iload_n dL_law_1247 rfl ?_
  refine V_iconst dL_law_1248 li_3 ?_
  refine V_iaddN dL_law_1249 ?_
  refine V_sc dL_law_1250 rfl (by omega) hL ?_
  refine V_aload_n dL_law_1251 rfl ?_
  refine V_iload_n dL_law_1252 rfl ?_
  refine V_iconst dL_law_1253 li_4 ?_
  refine V_iaddN dL_law_1254 ?_
  refine V_sc dL_law_1255 rfl (by omega) hL ?_
  refine V_aload_n dL_law_1256 rfl ?_
  refine V_iload_n dL_law_1257 rfl ?_
  refine V_iconst dL_law_1258 li_5 ?_
  refine V_iaddN dL_law_1259 ?_
  refine V_sc dL_law_1260 rfl (by omega) hL ?_
  refine VL_mI (m_copy l G (xs (i + 1)) (xs (i + 2)) (xs (i + 3)) (xs (i + 4)) (xs (i + 5)) h.1.2.2.2.2.2.2.2.2.2.2.2.2) dL_law_1261 (lw_V q1649 q1650 q1651 q103 q1652) hv_X5_copy (by decide) rfl (Nat.le_of_ble_eq_true rfl) (fun r2 G1 h3 => ?_)
  obtain ⟨e2, e3⟩ := h3
  rw [e3]
  exact V_icmp_eq (tgt := 1339) dL_law_1264 (by decide) (fun _ => kk _ X1 (⟨MI_copy h.1 (xs (i + 1)) (xs (i + 2)) (xs (i + 3)) (xs (i + 4)) (xs (i + 5)), fi_copy h.1 h.2.1 (xs (i + 1)) (xs (i + 2)) (xs (i + 3)) (xs (i + 4)) (xs (i + 5)), h1⟩)) (fun z => absurd (e1.trans e2.symm) z)
set_option maxHeartbeats 400000 in
theorem law_34 (l : Launch) (hl : l.stackTraces = false) {Q : Option Value → xW → Prop} {G X : xSt} {L i : Nat} {xs : Nat → Int32} (h : INV G X) (hi : i + 6 ≤ L) (hL : L ≤ 384) {k n : Nat} (kk : ∀ G' X', INV G' X' → V l ML (room_1, fL, Q, xX0) 1339 [some (.ref 990), some (.ref 0), some (.ref 1000), some (.int (nI i))] [] (wL X' G' L xs) k n) : V l ML (room_1, fL, Q, xX0) 1269 [some (.ref 990), some (.ref 0), some (.ref 1000), some (.int (nI i))] [] (wL X G L xs) (1802 + k) (12620 + n) := by
  refine V_aload_n dL_law_1269 rfl ?_
  refine V_aload_n dL_law_1270 rfl ?_
  refine V_iload_n dL_law_1271 rfl ?_
  refine V_iconst dL_law_1272 li_1 ?_
  refine V_iaddN dL_law_1273 ?_
  refine V_sc dL_law_1274 rfl (by omega) hL ?_
  refine V_aload_n dL_law_1275 rfl ?_
  refine V_iload_n dL_law_1276 rfl ?_
  refine V_iconst dL_law_1277 li_2 ?_
  refine V_iaddN dL_law_1278 ?_
  refine V_sc dL_law_1279 rfl (by omega) hL ?_
  refine VL_xI (k' := k) (n' := n) (x_write l h.2.2 h.1 (xs (i + 1)) (xs (i + 2))) fF_B dL_law_1280 (lw_V q1124 q1125 q1126 q95 q1127) hv_X0_write (by decide) rfl (Nat.le_of_ble_eq_true rfl) (okl_c (ok_r (by unfold fB fA; decide)) (okl_c (ok_r (by unfold fB fA; decide)) (okl_c (ok_r (by unfold fB fA; decide)) (okl_c ok_i okl_0)))) oks_0 ⟨by have := rc_le X; omega, by have := rc_le X; omega⟩ (fun r1 X1 h2 => ?_)
  obtain ⟨e1, h1⟩ := h2
  refine V_aload_n dL_law_1283 rfl ?_
  refine V_aload_n dL_law_1284 rfl ?_
  refine V_iload_n dL_law_1285 rfl ?_
  refine V_iconst dL_law_1286 li_1 ?_
  refine V_iaddN dL_law_1287 ?_
  refine V_sc dL_law_1288 rfl (by omega) hL ?_
  refine V_aload_n dL_law_1289 rfl ?_
  refine V_iload_n dL_law_1290 rfl ?_
  refine V_iconst dL_law_1291 li_2 ?_
  refine V_iaddN dL_law_1292 ?_
  refine V_sc dL_law_1293 rfl (by omega) hL ?_
  refine VL_mI (m_write l G (xs (i + 1)) (xs (i + 2)) h.1) dL_law_1294 (lw_V q1653 q1654 q1655 q103 q1656) hv_X5_write (by decide) rfl (Nat.le_of_ble_eq_true rfl) (fun r2 G1 h3 => ?_)
  obtain ⟨e2, e3⟩ := h3
  rw [e3]
  exact V_icmp_eq (tgt := 1339) dL_law_1297 (by decide) (fun _ => kk _ X1 (⟨MI_write h.1 (xs (i + 1)) (xs (i + 2)), fi_write h.1 h.2.1 (xs (i + 1)) (xs (i + 2)), h1⟩)) (fun z => absurd (e1.trans e2.symm) z)
set_option maxHeartbeats 400000 in
theorem law_35 (l : Launch) (hl : l.stackTraces = false) {Q : Option Value → xW → Prop} {G X : xSt} {L i : Nat} {xs : Nat → Int32} (h : INV G X) (hi : i + 6 ≤ L) (hL : L ≤ 384) {k n : Nat} (kk : ∀ G' X', INV G' X' → V l ML (room_1, fL, Q, xX0) 1339 [some (.ref 990), some (.ref 0), some (.ref 1000), some (.int (nI i))] [] (wL X' G' L xs) k n) : V l ML (room_1, fL, Q, xX0) 1302 [some (.ref 990), some (.ref 0), some (.ref 1000), some (.int (nI i))] [] (wL X G L xs) (1802 + k) (12620 + n) := by
  refine V_aload_n dL_law_1302 rfl ?_
  refine V_aload_n dL_law_1303 rfl ?_
  refine V_iload_n dL_law_1304 rfl ?_
  refine V_iconst dL_law_1305 li_1 ?_
  refine V_iaddN dL_law_1306 ?_
  refine V_sc dL_law_1307 rfl (by omega) hL ?_
  refine VL_xI (k' := k) (n' := n) (x_count l h.2.2 h.1 (xs (i + 1))) fF_B dL_law_1308 (lw_V q1128 q1129 q1130 q95 q1131) hv_X0_count (by decide) rfl (Nat.le_of_ble_eq_true rfl) (okl_c (ok_r (by unfold fB fA; decide)) (okl_c (ok_r (by unfold fB fA; decide)) (okl_c (ok_r (by unfold fB fA; decide)) (okl_c ok_i okl_0)))) oks_0 ⟨by have := rc_le X; omega, by have := rc_le X; omega⟩ (fun r1 X1 h2 => ?_)
  obtain ⟨e1, h1⟩ := h2
  refine V_aload_n dL_law_1311 rfl ?_
  refine V_aload_n dL_law_1312 rfl ?_
  refine V_iload_n dL_law_1313 rfl ?_
  refine V_iconst dL_law_1314 li_1 ?_
  refine V_iaddN dL_law_1315 ?_
  refine V_sc dL_law_1316 rfl (by omega) hL ?_
  refine VL_mI (m_count l G (xs (i + 1)) h.1.1) dL_law_1317 (lw_V q1657 q1658 q1659 q103 q1660) hv_X5_count (by decide) rfl (Nat.le_of_ble_eq_true rfl) (fun r2 G1 h3 => ?_)
  obtain ⟨e2, e3⟩ := h3
  rw [e3]
  exact V_icmp_eq (tgt := 1339) dL_law_1320 (by decide) (fun _ => kk _ X1 (INV_q h h1 (CO_count h.1 (xs (i + 1))))) (fun z => absurd (e1.trans e2.symm) z)
set_option maxHeartbeats 400000 in
theorem law_36 (l : Launch) (hl : l.stackTraces = false) {Q : Option Value → xW → Prop} {G X : xSt} {L i : Nat} {xs : Nat → Int32} (h : INV G X) (hi : i + 6 ≤ L) (hL : L ≤ 384) {k n : Nat} (kk : ∀ G' X', INV G' X' → V l ML (room_1, fL, Q, xX0) 1339 [some (.ref 990), some (.ref 0), some (.ref 1000), some (.int (nI i))] [] (wL X' G' L xs) k n) : V l ML (room_1, fL, Q, xX0) 1325 [some (.ref 990), some (.ref 0), some (.ref 1000), some (.int (nI i))] [] (wL X G L xs) (1802 + k) (12620 + n) := by
  refine V_aload_n dL_law_1325 rfl ?_
  refine VL_xL (k' := k) (n' := n) (x_digest l h.2.2 h.1) fA_B dL_law_1326 (lw_V q1139 q1140 q1141 q95 q1142) hv_X0_digest (by decide) rfl (Nat.le_of_ble_eq_true rfl) (okl_c (ok_r (by unfold fB fA; decide)) (okl_c (ok_r (by unfold fB fA; decide)) (okl_c (ok_r (by unfold fB fA; decide)) (okl_c ok_i okl_0)))) oks_0 ⟨by omega, by omega⟩ (fun r1 X1 h2 => ?_)
  obtain ⟨e1, h1⟩ := h2
  refine V_aload_n dL_law_1329 rfl ?_
  refine VL_mL (m_digest l G h.1) dL_law_1330 (lw_V q1665 q1666 q1667 q103 q1668) hv_X5_digest (by decide) rfl (Nat.le_of_ble_eq_true rfl) (fun r2 G1 h3 => ?_)
  obtain ⟨e2, e3⟩ := h3
  rw [e3]
  refine V_lcmp dL_law_1333 ?_
  exact V_if_eq (tgt := 1339) dL_law_1334 (by decide) (fun _ => kk _ X1 (⟨MI_digest h.1, K4_FI (CO_K4 (CO_dg h.1)) h.2.1, h1⟩)) (fun z => absurd (by rw [e1, e2]; exact lg_cmp_self _) z)

