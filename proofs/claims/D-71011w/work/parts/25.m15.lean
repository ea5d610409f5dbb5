/-! the model: digest -/
set_option maxRecDepth 100000
abbrev xQ : Type := Int64 × xSt
def dgC : Nat → Nat → Int64 → xSt → xQ
  | 0, _, h, S => (h, S)
  | j + 1, i, h, S => dgC j (i + 1) (mx h (countP (nI i) S).1) (countP (nI i) S).2
theorem dgC_s (j i : Nat) (h : Int64) (S : xSt) : dgC (j + 1) i h S = dgC j (i + 1) (mx h (countP (nI i) S).1) (countP (nI i) S).2 := rfl
def dgP : Nat → Nat → Int64 → xSt → xQ
  | 0, _, h, S => (h, S)
  | j + 1, p, h, S => if S 5 0 ≤ nI p then (h, S) else dgP j (p + 1) (pdF p h S).1 (pdF p h S).2
theorem dgP_s (j p : Nat) (h : Int64) (S : xSt) : dgP (j + 1) p h S = if S 5 0 ≤ nI p then (h, S) else dgP j (p + 1) (pdF p h S).1 (pdF p h S).2 := rfl
def dgK : Nat → Nat → Int64 → xSt → xQ
  | 0, _, h, S => (h, S)
  | j + 1, p, h, S => if S 2 0 ≤ nI p then (h, S) else dgK j (p + 1) (psF p h S).1 (psF p h S).2
theorem dgK_s (j p : Nat) (h : Int64) (S : xSt) : dgK (j + 1) p h S = if S 2 0 ≤ nI p then (h, S) else dgK j (p + 1) (psF p h S).1 (psF p h S).2 := rfl
def ddF2 (d : Nat) (h : Int64) (S : xSt) : xQ := (mx h (longF (RT S) d), RT S)
def ddF1 (d : Nat) (h : Int64) (S : xSt) : xQ := ddF2 d (mx h (nakedF (RT S) d)) (RT S)
def ddF (d : Nat) (h : Int64) (S : xSt) : xQ := ddF1 d (mx h (neatF (RT S) d)) (RT S)
def dgD : Nat → Nat → Int64 → xSt → xQ
  | 0, _, h, S => (h, S)
  | j + 1, d, h, S => dgD j (d + 1) (ddF d h S).1 (ddF d h S).2
theorem dgD_s (j d : Nat) (h : Int64) (S : xSt) : dgD (j + 1) d h S = dgD j (d + 1) (ddF d h S).1 (ddF d h S).2 := rfl

def dtF7 (h : Int64) (S : xSt) : xQ := (mx h (yearF (nI 7) 6 (nI 1) (asToldF S)).1, (yearF (nI 7) 6 (nI 1) (asToldF S)).2)
def dtF6 (h : Int64) (S : xSt) : xQ := dtF7 (mx h (yearF (nI 7) 6 (nI 0) (asToldF S)).1) (yearF (nI 7) 6 (nI 0) (asToldF S)).2
def dtF5 (h : Int64) (S : xSt) : xQ := dtF6 (mx h (neverF (asToldF S)).1) (neverF (asToldF S)).2
def dtF4b (h : Int64) (n : Int32) (S : xSt) : xQ := dtF5 (mx (mx h n) (ofRowF S n (nI 0))) S
def dtF4 (h : Int64) (S : xSt) : xQ := dtF4b h (hushF (asToldF S)).1 (hushF (asToldF S)).2
def dtF3 (h : Int64) (S : xSt) : xQ := dtF4 (mx h (keepF 8 (nI 1) (asToldF S)).1) (keepF 8 (nI 1) (asToldF S)).2
def dtF2 (h : Int64) (S : xSt) : xQ := dtF3 (mx h (keepF 8 (nI 0) (asToldF S)).1) (keepF 8 (nI 0) (asToldF S)).2
def dtF1 (h : Int64) (S : xSt) : xQ := dtF2 (mx h (bestF (RT S))) (RT S)
def dtF0 (h : Int64) (S : xSt) : xQ := dtF1 (mx h (tearsF (RT S))) (RT S)
def dg4 (q : xQ) : xQ := dtF0 q.1 q.2
def dg3 (q : xQ) : xQ := dg4 (dgD 24 0 q.1 q.2)
def dg2 (q : xQ) : xQ := dg3 (dgK 9 0 q.1 q.2)
def dg1 (q : xQ) : xQ := dg2 (dgP 11 0 q.1 q.2)
def dg0b (h : Int64) (S : xSt) : xQ := dg1 (mx h (partsF1 (partsF0 S).2).1, readsF S)
def dg0 (q : xQ) : xQ := dg0b (mx q.1 (partsF0 q.2).1) (readsF q.2)
def digestF (S : xSt) : xQ := dg0 (dgC 8 0 17 S)
theorem MI_dgC : ∀ j i h S, MI S → MI (dgC j i h S).2
  | 0, _, _, _, h => h
  | j + 1, i, h, S, hS => by rw [dgC_s]; exact MI_dgC j _ _ _ (MI_count hS _)
theorem DV_pdF {S : xSt} (p : Nat) (h : Int64) (hS : MI S) : DV (pdF p h S).2 := by
  have h1 := MI_RT hS
  unfold pdF pdF0
  generalize RT S = S1 at h1
  have h2 := MI_RT h1
  unfold pdF1
  generalize RT S1 = S2 at h2
  have h3 := (DV_du (p := p) (what := nI 0) h2).1
  unfold pdF2
  generalize dueF p (nI 0) (asToldF S2) = G at h3
  obtain ⟨x, S3⟩ := G
  dsimp only at h3
  unfold pdF3
  dsimp only
  exact DV_du h3
theorem DV_psF {S : xSt} (k : Nat) (h : Int64) (hk : k < 8) (hS : MI S) : DV (psF k h S).2 := by
  unfold psF
  unfold psF0
  have hM0 := MI_cdF 0 k (mx (mx h (personV S k (nI 0))) (personV S k (nI 1))) hS
  generalize cdF 0 k (mx (mx h (personV S k (nI 0))) (personV S k (nI 1))) S = G at hM0
  obtain ⟨x0, S0⟩ := G
  dsimp only at hM0
  dsimp only
  unfold psF1
  have hM1 := MI_cdF 6 k x0 hM0
  generalize cdF 6 k x0 S0 = G at hM1
  obtain ⟨x1, S1⟩ := G
  dsimp only at hM1
  dsimp only
  unfold psF2
  have hM2 := MI_cdF 14 k x1 hM1
  generalize cdF 14 k x1 S1 = G at hM2
  obtain ⟨x2, S2⟩ := G
  dsimp only at hM2
  dsimp only
  unfold psF3
  have hM3 := MI_cdF 23 k x2 hM2
  generalize cdF 23 k x2 S2 = G at hM3
  obtain ⟨x3, S3⟩ := G
  dsimp only at hM3
  dsimp only
  unfold psF4
  have hM4 := (DV_sw (k := k) (day := 14) hM3 hk).1
  generalize swearF k 14 (asToldF S3) = G at hM4
  obtain ⟨x4, S4⟩ := G
  dsimp only at hM4
  dsimp only
  unfold psF5
  have hM5 := (DV_sz (k := k) hM4).1
  generalize sizesF k (asToldF S4) = G at hM5
  obtain ⟨x5, S5⟩ := G
  dsimp only at hM5
  dsimp only
  unfold psF6
  have hM6 := (DV_so (k := k) hM5).1
  generalize sortsF k (asToldF S5) = G at hM6
  obtain ⟨x6, S6⟩ := G
  dsimp only at hM6
  dsimp only
  unfold psF7
  have hM7 := (DV_ak (k := k) hM6).1
  generalize askF k (asToldF S6) = G at hM7
  obtain ⟨x7, S7⟩ := G
  dsimp only at hM7
  dsimp only
  unfold psF8
  have hM8 := (DV_wo (c := 5) (k := k) (day := 14) (what := nI 0) hM7).1
  generalize wordF 5 k 14 (nI 0) (asToldF S7) = G at hM8
  obtain ⟨x8, S8⟩ := G
  dsimp only at hM8
  dsimp only
  unfold psF9
  dsimp only
  exact DV_wo hM8
theorem DV_dgP : ∀ j p h S, DV S → DV (dgP j p h S).2
  | 0, _, _, _, h => h
  | j + 1, p, h, S, hS => by
    rw [dgP_s]
    by_cases c : S 5 0 ≤ nI p
    · rw [if_pos c]; exact hS
    · rw [if_neg c]; exact DV_dgP j _ _ _ (DV_pdF p h hS.1)
theorem DV_dgK : ∀ j p h S, DV S → p + j ≤ 9 → DV (dgK j p h S).2
  | 0, _, _, _, h, _ => h
  | j + 1, p, h, S, hS, hj => by
    rw [dgK_s]
    by_cases c : S 2 0 ≤ nI p
    · rw [if_pos c]; exact hS
    · rw [if_neg c]
      obtain ⟨n, hn, h0⟩ := hS.2.1
      rw [h0] at c
      exact DV_dgK j _ _ _ (DV_psF p h (by have := Nat.not_le.mp (fun q => c (nI_le q (by omega))); omega) hS.1) (by omega)
theorem MI_ddF {S : xSt} (d : Nat) (h : Int64) (hS : MI S) : MI (ddF d h S).2 := by
  unfold ddF ddF1 ddF2
  dsimp only
  exact MI_RT (MI_RT (MI_RT hS))
theorem MI_dgD : ∀ j d h S, MI S → MI (dgD j d h S).2
  | 0, _, _, _, h => h
  | j + 1, d, h, S, hS => by rw [dgD_s]; exact MI_dgD j _ _ _ (MI_ddF d h hS)
theorem DV_dtF {S : xSt} (h : Int64) (hS : MI S) : DV (dtF0 h S).2 := by
  have h1 := MI_RT hS
  unfold dtF0
  generalize RT S = S1 at h1
  have h2 := MI_RT h1
  unfold dtF1
  generalize RT S1 = S2 at h2
  have h3 := (DV_kb (d := 8) (what := nI 0) h2).1
  unfold dtF2
  generalize keepF 8 (nI 0) (asToldF S2) = G at h3
  obtain ⟨x3, S3⟩ := G
  dsimp only at h3
  have h4 := (DV_kb (d := 8) (what := nI 1) h3).1
  unfold dtF3
  dsimp only
  generalize keepF 8 (nI 1) (asToldF S3) = G at h4
  obtain ⟨x4, S4⟩ := G
  dsimp only at h4
  have h5 := (DV_hu h4).1
  unfold dtF4 dtF4b
  dsimp only
  generalize hushF (asToldF S4) = G at h5
  obtain ⟨x5, S5⟩ := G
  dsimp only at h5
  have h6 := (DV_nv h5).1
  unfold dtF5
  dsimp only
  generalize neverF (asToldF S5) = G at h6
  obtain ⟨x6, S6⟩ := G
  dsimp only at h6
  have h7 := (DV_yr (seed := nI 7) (n := 6) (what := nI 0) h6 (by decide)).1
  unfold dtF6
  dsimp only
  generalize yearF (nI 7) 6 (nI 0) (asToldF S6) = G at h7
  obtain ⟨x7, S7⟩ := G
  dsimp only at h7
  unfold dtF7
  dsimp only
  exact DV_yr h7 (by decide)
theorem MI_digest {S : xSt} (hS : MI S) : MI (digestF S).2 := by
  have h1 := MI_dgC 8 0 17 S hS
  unfold digestF
  generalize dgC 8 0 17 S = G at h1
  obtain ⟨g1, S1⟩ := G
  dsimp only at h1
  unfold dg0 dg0b
  dsimp only
  have h2 := DV_reads (MI_reads h1)
  generalize readsF (readsF S1) = S2 at h2
  unfold dg1
  dsimp only
  generalize mx (mx g1 (partsF0 S1).1) (partsF1 (partsF0 (readsF S1)).2).1 = g2
  have h3 := DV_dgP 11 0 g2 S2 h2
  generalize dgP 11 0 g2 S2 = G at h3
  obtain ⟨g3, S3⟩ := G
  dsimp only at h3
  unfold dg2
  dsimp only
  have h4 := DV_dgK 9 0 g3 S3 h3 (by decide)
  generalize dgK 9 0 g3 S3 = G at h4
  obtain ⟨g4, S4⟩ := G
  dsimp only at h4
  unfold dg3
  dsimp only
  have h5 := MI_dgD 24 0 g4 S4 h4.1
  generalize dgD 24 0 g4 S4 = G at h5
  obtain ⟨g5, S5⟩ := G
  dsimp only at h5
  unfold dg4
  exact (DV_dtF g5 h5).1

set_option maxHeartbeats 4000000 in
theorem m_digest (l : Launch) (S : xSt) (hS : MI S) : Cm l yX5_digest cX5_digest 4 (some .long) 11 [] S (fun r S' => ∃ x, r = some (.long x) ∧ x = (digestF S).1 ∧ S' = (digestF S).2) := by
  refine Cm_start (ls := [some (.ref 1000), none, none, none]) (by decide) rfl (Nat.le_of_ble_eq_true rfl) ?_
  intro Q hQ
  have J156 : ∀ (g : Int64) (S1 : xSt) (x3 : Option Value) (hM : MI S1) (hR : dtF0 g S1 = digestF S), V l (yX5_digest.cls, cX5_digest, 4, (some .long), [], yX5_digest.name) (rmD 11 0 0, xF0, Q, xX0) 156 [some (.ref 1000), some (.long g), none, x3] [] (mW S1) 0 0 := by
    intro g S1 x3 hM hR
    rw [← hR] at hQ
    unfold dtF0 at hQ
    have c0 := m_splitsOf l S1 hM
    have h1 := MI_RT hM
    generalize RT S1 = S2 at hQ c0 h1
    unfold dtF1 at hQ
    have c1 := m_bestNow l S2 h1
    have h2 := MI_RT h1
    generalize RT S2 = S3 at hQ c1 h2
    unfold dtF2 at hQ
    have c2 := m_keepBest l S3 8 (nI 0) (by omega) h2
    have h3 := (DV_kb (d := 8) (what := nI 0) h2).1
    generalize keepF 8 (nI 0) (asToldF S3) = G at hQ c2 h3
    obtain ⟨x3, S3'⟩ := G
    dsimp only at hQ c2 h3
    unfold dtF3 at hQ
    have c3 := m_keepBest l S3' 8 (nI 1) (by omega) h3
    have h4 := (DV_kb (d := 8) (what := nI 1) h3).1
    generalize keepF 8 (nI 1) (asToldF S3') = G at hQ c3 h4
    obtain ⟨x4, S4'⟩ := G
    dsimp only at hQ c3 h4
    unfold dtF4 at hQ
    have c4 := m_hushBy l S4' h4
    have h5 := (DV_hu h4).1
    generalize hushF (asToldF S4') = G at hQ c4 h5
    obtain ⟨x5, S5'⟩ := G
    dsimp only at hQ c4 h5
    unfold dtF4b at hQ
    unfold dtF5 at hQ
    have c5 := m_neverNow l S5' h5
    have h6 := (DV_nv h5).1
    generalize neverF (asToldF S5') = G at hQ c5 h6
    obtain ⟨x6, S6'⟩ := G
    dsimp only at hQ c5 h6
    unfold dtF6 at hQ
    have c6 := m_yearOf l S6' (nI 7) 6 (nI 0) (by omega) h6
    have h7 := (DV_yr (seed := nI 7) (n := 6) (what := nI 0) h6 (by decide)).1
    generalize yearF (nI 7) 6 (nI 0) (asToldF S6') = G at hQ c6 h7
    obtain ⟨x7, S7'⟩ := G
    dsimp only at hQ c6 h7
    unfold dtF7 at hQ
    have c7 := m_yearOf l S7' (nI 7) 6 (nI 1) (by omega) h7
    have h8 := (DV_yr (seed := nI 7) (n := 6) (what := nI 1) h7 (by decide)).1
    generalize yearF (nI 7) 6 (nI 1) (asToldF S7') = G at hQ c7 h8
    obtain ⟨x8, S8'⟩ := G
    dsimp only at hQ c7 h8
    refine V_ldc2 dX5_digest_156 q1670 ?_
    refine V_lload_n dX5_digest_159 rfl ?_
    refine V_lmul dX5_digest_160 ?_
    refine V_aload_n dX5_digest_161 rfl ?_
    refine Vm_callIF c0 dX5_digest_162 (lw_V q1500 q1502 qs71 q103 q1503) hv_X5_splitsOf (by decide) rfl (Nat.le_of_ble_eq_true rfl) ?_
    refine V_i2l dX5_digest_165 rfl ?_
    refine V_ladd dX5_digest_166 ?_
    refine V_lstore_n dX5_digest_167 rfl (Nat.le_of_ble_eq_true rfl) (Nat.le_of_ble_eq_true rfl) ?_
    show V l _ _ _ [_, _, _, _] _ _ _ _
    refine V_ldc2 dX5_digest_168 q1670 ?_
    refine V_lload_n dX5_digest_171 rfl ?_
    refine V_lmul dX5_digest_172 ?_
    refine V_aload_n dX5_digest_173 rfl ?_
    refine Vm_callIF c1 dX5_digest_174 (lw_V q1512 q1514 qs73 q103 q1515) hv_X5_bestNow (by decide) rfl (Nat.le_of_ble_eq_true rfl) ?_
    refine V_i2l dX5_digest_177 rfl ?_
    refine V_ladd dX5_digest_178 ?_
    refine V_lstore_n dX5_digest_179 rfl (Nat.le_of_ble_eq_true rfl) (Nat.le_of_ble_eq_true rfl) ?_
    show V l _ _ _ [_, _, _, _] _ _ _ _
    refine V_ldc2 dX5_digest_180 q1670 ?_
    refine V_lload_n dX5_digest_183 rfl ?_
    refine V_lmul dX5_digest_184 ?_
    refine V_aload_n dX5_digest_185 rfl ?_
    refine V_bipush dX5_digest_186 lb_8 ?_
    refine V_iconst dX5_digest_188 li_0 ?_
    refine Vm_callIF c2 dX5_digest_189 (lw_V q1532 q1534 qs76 q103 q1535) hv_X5_keepBest (by decide) rfl (Nat.le_of_ble_eq_true rfl) ?_
    refine V_i2l dX5_digest_192 rfl ?_
    refine V_ladd dX5_digest_193 ?_
    refine V_lstore_n dX5_digest_194 rfl (Nat.le_of_ble_eq_true rfl) (Nat.le_of_ble_eq_true rfl) ?_
    show V l _ _ _ [_, _, _, _] _ _ _ _
    refine V_ldc2 dX5_digest_195 q1670 ?_
    refine V_lload_n dX5_digest_198 rfl ?_
    refine V_lmul dX5_digest_199 ?_
    refine V_aload_n dX5_digest_200 rfl ?_
    refine V_bipush dX5_digest_201 lb_8 ?_
    refine V_iconst dX5_digest_203 li_1 ?_
    refine Vm_callIF c3 dX5_digest_204 (lw_V q1532 q1534 qs76 q103 q1535) hv_X5_keepBest (by decide) rfl (Nat.le_of_ble_eq_true rfl) ?_
    refine V_i2l dX5_digest_207 rfl ?_
    refine V_ladd dX5_digest_208 ?_
    refine V_lstore_n dX5_digest_209 rfl (Nat.le_of_ble_eq_true rfl) (Nat.le_of_ble_eq_true rfl) ?_
    show V l _ _ _ [_, _, _, _] _ _ _ _
    refine V_aload_n dX5_digest_210 rfl ?_
    refine Vm_callIF c4 dX5_digest_211 (lw_V q1548 q1550 qs78 q103 q1551) hv_X5_hushBy (by decide) rfl (Nat.le_of_ble_eq_true rfl) ?_
    refine V_istore_n dX5_digest_214 rfl (Nat.le_of_ble_eq_true rfl) (Nat.le_of_ble_eq_true rfl) ?_
    show V l _ _ _ [_, _, _, _] _ _ _ _
    refine V_ldc2 dX5_digest_215 q1670 ?_
    refine V_lload_n dX5_digest_218 rfl ?_
    refine V_lmul dX5_digest_219 ?_
    refine V_iload_n dX5_digest_220 rfl ?_
    refine V_i2l dX5_digest_221 rfl ?_
    refine V_ladd dX5_digest_222 ?_
    refine V_lstore_n dX5_digest_223 rfl (Nat.le_of_ble_eq_true rfl) (Nat.le_of_ble_eq_true rfl) ?_
    show V l _ _ _ [_, _, _, _] _ _ _ _
    refine V_ldc2 dX5_digest_224 q1670 ?_
    refine V_lload_n dX5_digest_227 rfl ?_
    refine V_lmul dX5_digest_228 ?_
    refine V_aload_n dX5_digest_229 rfl ?_
    refine V_iload_n dX5_digest_230 rfl ?_
    refine V_iconst dX5_digest_231 li_0 ?_
    refine Vm_callIF (m_ofRow l _ _ (nI 0) (.inr ⟨0, by decide, rfl⟩)) dX5_digest_232 (lw_V q1556 q1558 qs80 q103 q1559) hv_X5_ofRow (by decide) rfl (Nat.le_of_ble_eq_true rfl) ?_
    refine V_i2l dX5_digest_235 rfl ?_
    refine V_ladd dX5_digest_236 ?_
    refine V_lstore_n dX5_digest_237 rfl (Nat.le_of_ble_eq_true rfl) (Nat.le_of_ble_eq_true rfl) ?_
    show V l _ _ _ [_, _, _, _] _ _ _ _
    refine V_ldc2 dX5_digest_238 q1670 ?_
    refine V_lload_n dX5_digest_241 rfl ?_
    refine V_lmul dX5_digest_242 ?_
    refine V_aload_n dX5_digest_243 rfl ?_
    refine Vm_callIF c5 dX5_digest_244 (lw_V q1572 q1574 qs81 q103 q1575) hv_X5_neverNow (by decide) rfl (Nat.le_of_ble_eq_true rfl) ?_
    refine V_i2l dX5_digest_247 rfl ?_
    refine V_ladd dX5_digest_248 ?_
    refine V_lstore_n dX5_digest_249 rfl (Nat.le_of_ble_eq_true rfl) (Nat.le_of_ble_eq_true rfl) ?_
    show V l _ _ _ [_, _, _, _] _ _ _ _
    refine V_ldc2 dX5_digest_250 q1670 ?_
    refine V_lload_n dX5_digest_253 rfl ?_
    refine V_lmul dX5_digest_254 ?_
    refine V_aload_n dX5_digest_255 rfl ?_
    refine V_bipush dX5_digest_256 lb_7 ?_
    refine V_bipush dX5_digest_258 lb_6 ?_
    refine V_iconst dX5_digest_260 li_0 ?_
    refine Vm_callIF c6 dX5_digest_261 (lw_V q1619 q1621 qs87 q103 q1622) hv_X5_yearOf (by decide) rfl (Nat.le_of_ble_eq_true rfl) ?_
    refine V_i2l dX5_digest_264 rfl ?_
    refine V_ladd dX5_digest_265 ?_
    refine V_lstore_n dX5_digest_266 rfl (Nat.le_of_ble_eq_true rfl) (Nat.le_of_ble_eq_true rfl) ?_
    show V l _ _ _ [_, _, _, _] _ _ _ _
    refine V_ldc2 dX5_digest_267 q1670 ?_
    refine V_lload_n dX5_digest_270 rfl ?_
    refine V_lmul dX5_digest_271 ?_
    refine V_aload_n dX5_digest_272 rfl ?_
    refine V_bipush dX5_digest_273 lb_7 ?_
    refine V_bipush dX5_digest_275 lb_6 ?_
    refine V_iconst dX5_digest_277 li_1 ?_
    refine Vm_callIF c7 dX5_digest_278 (lw_V q1619 q1621 qs87 q103 q1622) hv_X5_yearOf (by decide) rfl (Nat.le_of_ble_eq_true rfl) ?_
    refine V_i2l dX5_digest_281 rfl ?_
    refine V_ladd dX5_digest_282 ?_
    exact V_lreturn dX5_digest_283 rfl (hQ _ _ ⟨_, rfl, ⟨rfl, rfl⟩⟩)
  have L105 : ∀ (j : Nat) (d : Nat) (g : Int64) (S1 : xSt) (hM : MI S1) (hj : d + j = 24) (hR : dg4 (dgD j d g S1) = digestF S), V l (yX5_digest.cls, cX5_digest, 4, (some .long), [], yX5_digest.name) (rmD 11 0 0, xF0, Q, xX0) 105 [some (.ref 1000), some (.long g), none, some (.int (nI d))] [] (mW S1) 0 0 := by
    intro j
    induction j with
    | zero =>
      intro d g S1 hM hj hR
      refine V_iload_n dX5_digest_105 rfl ?_
      refine V_bipush dX5_digest_106 lb_24 ?_
      refine V_icmp_ge (tgt := 156) dX5_digest_108 (by decide) (fun _ => ?_) (fun c108 => absurd (nI_le (by omega) (by omega)) c108)
      exact J156 g S1 _ hM hR
    | succ j ih =>
      intro d g S1 hM hj hR
      have c0 := m_neatOf l S1 d (by omega) hM
      have h1 := MI_RT hM
      have c1 := m_nakedOf l (RT S1) d (by omega) h1
      have h2 := MI_RT h1
      have c2 := m_longestOf l (RT (RT S1)) d (by omega) h2
      have h3 := MI_RT h2
      rw [dgD_s] at hR
      unfold ddF ddF1 ddF2 at hR
      dsimp only at hR
      generalize RT (RT (RT S1)) = S4 at c2 h3 hR
      generalize RT (RT S1) = S3 at c1 c2 hR
      generalize RT S1 = S2 at c0 c1 hR
      refine V_iload_n dX5_digest_105 rfl ?_
      refine V_bipush dX5_digest_106 lb_24 ?_
      refine V_icmp_ge (tgt := 156) dX5_digest_108 (by decide) (fun c108 => absurd c108 (nI_ge (by omega) (by omega))) (fun _ => ?_)
      refine V_ldc2 dX5_digest_111 q1670 ?_
      refine V_lload_n dX5_digest_114 rfl ?_
      refine V_lmul dX5_digest_115 ?_
      refine V_aload_n dX5_digest_116 rfl ?_
      refine V_iload_n dX5_digest_117 rfl ?_
      refine Vm_callIF c0 dX5_digest_118 (lw_V q1472 q1474 qs67 q103 q1475) hv_X5_neatOf (by decide) rfl (Nat.le_of_ble_eq_true rfl) ?_
      refine V_i2l dX5_digest_121 rfl ?_
      refine V_ladd dX5_digest_122 ?_
      refine V_lstore_n dX5_digest_123 rfl (Nat.le_of_ble_eq_true rfl) (Nat.le_of_ble_eq_true rfl) ?_
      show V l _ _ _ [_, _, _, _] _ _ _ _
      refine V_ldc2 dX5_digest_124 q1670 ?_
      refine V_lload_n dX5_digest_127 rfl ?_
      refine V_lmul dX5_digest_128 ?_
      refine V_aload_n dX5_digest_129 rfl ?_
      refine V_iload_n dX5_digest_130 rfl ?_
      refine Vm_callIF c1 dX5_digest_131 (lw_V q1480 q1482 qs68 q103 q1483) hv_X5_nakedOf (by decide) rfl (Nat.le_of_ble_eq_true rfl) ?_
      refine V_i2l dX5_digest_134 rfl ?_
      refine V_ladd dX5_digest_135 ?_
      refine V_lstore_n dX5_digest_136 rfl (Nat.le_of_ble_eq_true rfl) (Nat.le_of_ble_eq_true rfl) ?_
      show V l _ _ _ [_, _, _, _] _ _ _ _
      refine V_ldc2 dX5_digest_137 q1670 ?_
      refine V_lload_n dX5_digest_140 rfl ?_
      refine V_lmul dX5_digest_141 ?_
      refine V_aload_n dX5_digest_142 rfl ?_
      refine V_iload_n dX5_digest_143 rfl ?_
      refine Vm_callIF c2 dX5_digest_144 (lw_V q1492 q1494 qs70 q103 q1495) hv_X5_longestOf (by decide) rfl (Nat.le_of_ble_eq_true rfl) ?_
      refine V_i2l dX5_digest_147 rfl ?_
      refine V_ladd dX5_digest_148 ?_
      refine V_lstore_n dX5_digest_149 rfl (Nat.le_of_ble_eq_true rfl) (Nat.le_of_ble_eq_true rfl) ?_
      show V l _ _ _ [_, _, _, _] _ _ _ _
      refine V_iinc dX5_digest_150 rfl (iinc_1 _) rfl (Nat.le_of_ble_eq_true rfl) ?_
      refine V_goto (tgt := 105) dX5_digest_153 (by decide) ?_
      exact ih (d + 1) _ _ h3 (by omega) hR
  have L82 : ∀ (j : Nat) (p : Nat) (g : Int64) (S1 : xSt) (hM : DV S1) (hj : p + j = 9) (hR : dg3 (dgK j p g S1) = digestF S), V l (yX5_digest.cls, cX5_digest, 4, (some .long), [], yX5_digest.name) (rmD 11 0 0, xF0, Q, xX0) 82 [some (.ref 1000), some (.long g), none, some (.int (nI p))] [] (mW S1) 0 0 := by
    intro j
    induction j with
    | zero =>
      intro p g S1 hM hj hR
      obtain ⟨nn, hnn, hn0⟩ := hM.2.1
      refine V_iload_n dX5_digest_82 rfl ?_
      refine V_aload_n dX5_digest_83 rfl ?_
      refine Vm_getI 2 dX5_digest_84 q1166 (by decide) ?_
      refine V_topi hn0 ?_
      refine V_icmp_ge (tgt := 103) dX5_digest_87 (by decide) (fun _ => ?_) (fun c87 => absurd (nI_le (by omega) (by omega)) c87)
      refine V_iconst dX5_digest_103 li_0 ?_
      refine V_istore_n dX5_digest_104 rfl (Nat.le_of_ble_eq_true rfl) (Nat.le_of_ble_eq_true rfl) ?_
      show V l _ _ _ [_, _, _, _] _ _ _ _
      exact L105 24 0 g S1 hM.1 (by omega) hR
    | succ j ih =>
      intro p g S1 hM hj hR
      obtain ⟨nn, hnn, hn0⟩ := hM.2.1
      refine V_iload_n dX5_digest_82 rfl ?_
      refine V_aload_n dX5_digest_83 rfl ?_
      refine Vm_getI 2 dX5_digest_84 q1166 (by decide) ?_
      refine V_topi hn0 ?_
      refine V_icmp_geN (tgt := 103) dX5_digest_87 (by decide) (by omega) (by omega) (fun c87 => ?_) (fun c87 => ?_)
      · rw [dgK_s, if_pos (by rw [hn0]; exact nI_le c87 (by omega))] at hR
        refine V_iconst dX5_digest_103 li_0 ?_
        refine V_istore_n dX5_digest_104 rfl (Nat.le_of_ble_eq_true rfl) (Nat.le_of_ble_eq_true rfl) ?_
        show V l _ _ _ [_, _, _, _] _ _ _ _
        exact L105 24 0 g S1 hM.1 (by omega) hR
      · have c0 := m_personDigest l S1 g p (by omega) hM.1
        have h2 := DV_psF p g (by omega) hM.1
        rw [dgK_s, if_neg (by rw [hn0]; exact nI_ge (by omega) (by omega))] at hR
        generalize psF p g S1 = G at c0 h2 hR
        obtain ⟨g2, S2⟩ := G
        dsimp only at c0 h2 hR
        refine V_aload_n dX5_digest_90 rfl ?_
        refine V_lload_n dX5_digest_91 rfl ?_
        refine V_iload_n dX5_digest_92 rfl ?_
        refine Vm_callLF c0 dX5_digest_93 (lw_V q1676 q1678 qs92 q103 q1679) hv_X5_personDigest (by decide) rfl (Nat.le_of_ble_eq_true rfl) ?_
        refine V_lstore_n dX5_digest_96 rfl (Nat.le_of_ble_eq_true rfl) (Nat.le_of_ble_eq_true rfl) ?_
        show V l _ _ _ [_, _, _, _] _ _ _ _
        refine V_iinc dX5_digest_97 rfl (iinc_1 _) rfl (Nat.le_of_ble_eq_true rfl) ?_
        refine V_goto (tgt := 82) dX5_digest_100 (by decide) ?_
        exact ih (p + 1) _ _ h2 (by omega) hR
  have L59 : ∀ (j : Nat) (p : Nat) (g : Int64) (S1 : xSt) (hM : DV S1) (hj : p + j = 11) (hR : dg2 (dgP j p g S1) = digestF S), V l (yX5_digest.cls, cX5_digest, 4, (some .long), [], yX5_digest.name) (rmD 11 0 0, xF0, Q, xX0) 59 [some (.ref 1000), some (.long g), none, some (.int (nI p))] [] (mW S1) 0 0 := by
    intro j
    induction j with
    | zero =>
      intro p g S1 hM hj hR
      obtain ⟨nn, hnn, hn0⟩ := hM.2.2
      refine V_iload_n dX5_digest_59 rfl ?_
      refine V_aload_n dX5_digest_60 rfl ?_
      refine Vm_getI 5 dX5_digest_61 q1169 (by decide) ?_
      refine V_topi hn0 ?_
      refine V_icmp_ge (tgt := 80) dX5_digest_64 (by decide) (fun _ => ?_) (fun c64 => absurd (nI_le (by omega) (by omega)) c64)
      refine V_iconst dX5_digest_80 li_0 ?_
      refine V_istore_n dX5_digest_81 rfl (Nat.le_of_ble_eq_true rfl) (Nat.le_of_ble_eq_true rfl) ?_
      show V l _ _ _ [_, _, _, _] _ _ _ _
      exact L82 9 0 g S1 hM (by omega) hR
    | succ j ih =>
      intro p g S1 hM hj hR
      obtain ⟨nn, hnn, hn0⟩ := hM.2.2
      refine V_iload_n dX5_digest_59 rfl ?_
      refine V_aload_n dX5_digest_60 rfl ?_
      refine Vm_getI 5 dX5_digest_61 q1169 (by decide) ?_
      refine V_topi hn0 ?_
      refine V_icmp_geN (tgt := 80) dX5_digest_64 (by decide) (by omega) (by omega) (fun c64 => ?_) (fun c64 => ?_)
      · rw [dgP_s, if_pos (by rw [hn0]; exact nI_le c64 (by omega))] at hR
        refine V_iconst dX5_digest_80 li_0 ?_
        refine V_istore_n dX5_digest_81 rfl (Nat.le_of_ble_eq_true rfl) (Nat.le_of_ble_eq_true rfl) ?_
        show V l _ _ _ [_, _, _, _] _ _ _ _
        exact L82 9 0 g S1 hM (by omega) hR
      · have c0 := m_promiseDigest l S1 g p (by omega) hM.1
        have h2 := DV_pdF p g hM.1
        rw [dgP_s, if_neg (by rw [hn0]; exact nI_ge (by omega) (by omega))] at hR
        generalize pdF p g S1 = G at c0 h2 hR
        obtain ⟨g2, S2⟩ := G
        dsimp only at c0 h2 hR
        refine V_aload_n dX5_digest_67 rfl ?_
        refine V_lload_n dX5_digest_68 rfl ?_
        refine V_iload_n dX5_digest_69 rfl ?_
        refine Vm_callLF c0 dX5_digest_70 (lw_V q1672 q1674 qs91 q103 q1675) hv_X5_promiseDigest (by decide) rfl (Nat.le_of_ble_eq_true rfl) ?_
        refine V_lstore_n dX5_digest_73 rfl (Nat.le_of_ble_eq_true rfl) (Nat.le_of_ble_eq_true rfl) ?_
        show V l _ _ _ [_, _, _, _] _ _ _ _
        refine V_iinc dX5_digest_74 rfl (iinc_1 _) rfl (Nat.le_of_ble_eq_true rfl) ?_
        refine V_goto (tgt := 59) dX5_digest_77 (by decide) ?_
        exact ih (p + 1) _ _ h2 (by omega) hR
  have L6 : ∀ (j : Nat) (i : Nat) (g : Int64) (S1 : xSt) (hM : MI S1) (hj : i + j = 8) (hR : dg0 (dgC j i g S1) = digestF S), V l (yX5_digest.cls, cX5_digest, 4, (some .long), [], yX5_digest.name) (rmD 11 0 0, xF0, Q, xX0) 6 [some (.ref 1000), some (.long g), none, some (.int (nI i))] [] (mW S1) 0 0 := by
    intro j
    induction j with
    | zero =>
      intro i g S1 hM hj hR
      have c0 := m_faultOf l S1 (nI 0) hM.1
      rw [if_pos (show nI 0 = 0 from rfl)] at c0
      have h1 := MI_reads hM
      have c1 := m_faultOf l (readsF S1) (nI 1) h1.1
      rw [if_neg (show ¬ nI 1 = 0 by decide +kernel)] at c1
      have h2 := DV_reads h1
      replace hR : dg0 (g, S1) = digestF S := hR
      unfold dg0 dg0b dg1 at hR
      dsimp only at hR
      generalize readsF (readsF S1) = S3 at c1 h2 hR
      generalize (partsF1 (partsF0 (readsF S1)).2).1 = y1 at c1 hR
      generalize readsF S1 = S2 at c0 c1 hR
      generalize (partsF0 S1).1 = y0 at c0 hR
      refine V_iload_n dX5_digest_6 rfl ?_
      refine V_bipush dX5_digest_7 lb_8 ?_
      refine V_icmp_ge (tgt := 31) dX5_digest_9 (by decide) (fun _ => ?_) (fun c9 => absurd (nI_le (by omega) (by omega)) c9)
      refine V_ldc2 dX5_digest_31 q1670 ?_
      refine V_lload_n dX5_digest_34 rfl ?_
      refine V_lmul dX5_digest_35 ?_
      refine V_aload_n dX5_digest_36 rfl ?_
      refine V_iconst dX5_digest_37 li_0 ?_
      refine Vm_callIF c0 dX5_digest_38 (lw_V q1323 q1325 qs43 q103 q1326) hv_X5_faultOf (by decide) rfl (Nat.le_of_ble_eq_true rfl) ?_
      refine V_i2l dX5_digest_41 rfl ?_
      refine V_ladd dX5_digest_42 ?_
      refine V_lstore_n dX5_digest_43 rfl (Nat.le_of_ble_eq_true rfl) (Nat.le_of_ble_eq_true rfl) ?_
      show V l _ _ _ [_, _, _, _] _ _ _ _
      refine V_ldc2 dX5_digest_44 q1670 ?_
      refine V_lload_n dX5_digest_47 rfl ?_
      refine V_lmul dX5_digest_48 ?_
      refine V_aload_n dX5_digest_49 rfl ?_
      refine V_iconst dX5_digest_50 li_1 ?_
      refine Vm_callIF c1 dX5_digest_51 (lw_V q1323 q1325 qs43 q103 q1326) hv_X5_faultOf (by decide) rfl (Nat.le_of_ble_eq_true rfl) ?_
      refine V_i2l dX5_digest_54 rfl ?_
      refine V_ladd dX5_digest_55 ?_
      refine V_lstore_n dX5_digest_56 rfl (Nat.le_of_ble_eq_true rfl) (Nat.le_of_ble_eq_true rfl) ?_
      show V l _ _ _ [_, _, _, _] _ _ _ _
      refine V_iconst dX5_digest_57 li_0 ?_
      refine V_istore_n dX5_digest_58 rfl (Nat.le_of_ble_eq_true rfl) (Nat.le_of_ble_eq_true rfl) ?_
      show V l _ _ _ [_, _, _, _] _ _ _ _
      exact L59 11 0 _ S3 h2 (by omega) hR
    | succ j ih =>
      intro i g S1 hM hj hR
      have c0 := m_count l S1 (nI i) hM.1
      have h1 := MI_count hM (nI i)
      rw [dgC_s] at hR
      generalize countP (nI i) S1 = G at c0 h1 hR
      obtain ⟨y, S2⟩ := G
      dsimp only at c0 h1 hR
      refine V_iload_n dX5_digest_6 rfl ?_
      refine V_bipush dX5_digest_7 lb_8 ?_
      refine V_icmp_ge (tgt := 31) dX5_digest_9 (by decide) (fun c9 => absurd c9 (nI_ge (by omega) (by omega))) (fun _ => ?_)
      refine V_ldc2 dX5_digest_12 q1670 ?_
      refine V_lload_n dX5_digest_15 rfl ?_
      refine V_lmul dX5_digest_16 ?_
      refine V_aload_n dX5_digest_17 rfl ?_
      refine V_iload_n dX5_digest_18 rfl ?_
      refine Vm_callIF c0 dX5_digest_19 (lw_V q1671 q1658 q1659 q103 q1660) hv_X5_count (by decide) rfl (Nat.le_of_ble_eq_true rfl) ?_
      refine V_i2l dX5_digest_22 rfl ?_
      refine V_ladd dX5_digest_23 ?_
      refine V_lstore_n dX5_digest_24 rfl (Nat.le_of_ble_eq_true rfl) (Nat.le_of_ble_eq_true rfl) ?_
      show V l _ _ _ [_, _, _, _] _ _ _ _
      refine V_iinc dX5_digest_25 rfl (iinc_1 _) rfl (Nat.le_of_ble_eq_true rfl) ?_
      refine V_goto (tgt := 6) dX5_digest_28 (by decide) ?_
      exact ih (i + 1) _ _ h1 (by omega) hR
  refine V_ldc2 dX5_digest_0 q1669 ?_
  refine V_lstore_n dX5_digest_3 rfl (Nat.le_of_ble_eq_true rfl) (Nat.le_of_ble_eq_true rfl) ?_
  show V l _ _ _ [_, _, _, _] _ _ _ _
  refine V_iconst dX5_digest_4 li_0 ?_
  refine V_istore_n dX5_digest_5 rfl (Nat.le_of_ble_eq_true rfl) (Nat.le_of_ble_eq_true rfl) ?_
  show V l _ _ _ [_, _, _, _] _ _ _ _
  exact L6 8 0 17 S hS (by omega) rfl
