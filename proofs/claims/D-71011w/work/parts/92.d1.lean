/-! two plans that say the same run alike -/
set_option maxRecDepth 100000
def SB (P N D : Nat) (T1 T2 : xSt) : Prop := (∀ k, k < P → T1 27 k = T2 27 k ∧ T1 28 k = T2 28 k) ∧ (∀ p, p < N → T1 29 p = T2 29 p ∧ (T2 29 p = nI 1 → wN T2 p < P)) ∧ ∀ e, e < D → (∀ k, k < P → T1 30 (8 * e + k) = T2 30 (8 * e + k) ∧ T1 31 (8 * e + k) = T2 31 (8 * e + k)) ∧ ∀ p, p < N → T1 32 (12 * e + p) = T2 32 (12 * e + p)
def SAm (P N Q : Nat) (T1 T2 : xSt) : Prop := (P ≤ 8 ∧ N ≤ 10 ∧ Q ≤ 9) ∧ (T1 2 0 = nI P ∧ T2 2 0 = nI P) ∧ (T1 5 0 = nI N ∧ T2 5 0 = nI N) ∧ (T1 21 0 = nI N ∧ T2 21 0 = nI N) ∧ (T1 22 0 = nI Q ∧ T2 22 0 = nI Q) ∧ (T1 25 0 = T2 25 0 ∧ T1 26 0 = T2 26 0) ∧ (∀ r, 12 < r → r < 21 → T1 r = T2 r) ∧ (∀ k, k < P → T1 3 k = T2 3 k ∧ T1 4 k = T2 4 k) ∧ (∀ p, p < N → T1 6 p = T2 6 p ∧ T1 7 p = T2 7 p ∧ T1 8 p = T2 8 p ∧ T1 9 p = T2 9 p) ∧ (∀ p, p < N → bd (T2 6 p) 7) ∧ (∀ i, i < Q → T1 23 i = T2 23 i ∧ T1 24 i = T2 24 i) ∧ (∀ i, i < 6 → bd (T2 15 i) 7 ∧ bd (T2 19 i) 7) ∧ bd (T2 13 0) 6 ∧ bd (T2 17 0) 6
theorem SAm_fr {P N Q : Nat} {T1 T2 U1 U2 : xSt} (h1 : fr T1 U1) (h2 : fr T2 U2) (h : SAm P N Q T1 T2) : SAm P N Q U1 U2 := by
  unfold SAm at *
  rw [h1 2 (by omega), h2 2 (by omega), h1 5 (by omega), h2 5 (by omega), h1 21 (by omega), h2 21 (by omega), h1 22 (by omega), h2 22 (by omega), h1 25 (by omega), h2 25 (by omega), h1 26 (by omega), h2 26 (by omega), h1 3 (by omega), h2 3 (by omega), h1 4 (by omega), h2 4 (by omega), h1 6 (by omega), h2 6 (by omega), h1 7 (by omega), h2 7 (by omega), h1 8 (by omega), h2 8 (by omega), h1 9 (by omega), h2 9 (by omega), h1 23 (by omega), h2 23 (by omega), h1 24 (by omega), h2 24 (by omega), h2 15 (by omega), h2 19 (by omega), h2 13 (by omega), h2 17 (by omega)]
  refine ⟨h.1, h.2.1, h.2.2.1, h.2.2.2.1, h.2.2.2.2.1, h.2.2.2.2.2.1, fun r a b => ?_, h.2.2.2.2.2.2.2⟩
  rw [h1 r (by omega), h2 r (by omega)]
  exact h.2.2.2.2.2.2.1 r a b
def SIM (P N Q D : Nat) (T1 T2 : xSt) : Prop := SAm P N Q T1 T2 ∧ SB P N D T1 T2
theorem mw_c {S1 S2 : xSt} {j i r q : Nat} {v : Int32} (h : S1 r q = S2 r q) : mwr S1 j i v r q = mwr S2 j i v r q := by
  unfold mwr
  by_cases c : r = j ∧ q = i
  · rw [if_pos c, if_pos c]
  · rw [if_neg c, if_neg c]; exact h
theorem fr_w1 (S : xSt) {j i : Nat} {v : Int32} (hj : 27 ≤ j ∧ j ≤ 32) : fr S (mwr S j i v) := fun r hr => mwr_R _ _ _ (by omega)
theorem SM_w {P N Q D j i : Nat} {v : Int32} {T1 T2 : xSt} (hj : 27 ≤ j ∧ j ≤ 32) (hv : j = 29 → v = nI 1 → wN T2 i < P) (h : SIM P N Q D T1 T2) : SIM P N Q D (mwr T1 j i v) (mwr T2 j i v) := by
  refine ⟨SAm_fr (fr_w1 _ hj) (fr_w1 _ hj) h.1, fun k hk => ⟨mw_c (h.2.1 k hk).1, mw_c (h.2.1 k hk).2⟩, fun p hp => ⟨mw_c (h.2.2.1 p hp).1, fun z => ?_⟩, fun e he => ⟨fun k hk => ⟨mw_c ((h.2.2.2 e he).1 k hk).1, mw_c ((h.2.2.2 e he).1 k hk).2⟩, fun p hp => mw_c ((h.2.2.2 e he).2 p hp)⟩⟩
  have ew : wN (mwr T2 j i v) p = wN T2 p := by unfold wN; rw [mwr_r _ _ _ _ (by omega)]
  rw [ew]
  by_cases c : (29 : Nat) = j ∧ p = i
  · rw [c.2]
    refine hv c.1.symm ?_
    rw [c.1, c.2, mwr_s] at z
    exact z
  · refine (h.2.2.1 p hp).2 ?_
    unfold mwr at z
    rw [if_neg c] at z
    exact z
theorem SM_cut {P N Q D k : Nat} {x : Int32} {T1 T2 : xSt} (hk : k < P) (h : SIM P N Q D T1 T2) : SIM P N Q D (cutS k x T1) (cutS k x T2) := by
  unfold cutS
  rw [(h.2.1 k hk).1]
  exact SM_w (by omega) (fun z => by omega) h
theorem SM_it {P N Q D n : Nat} {f : Nat → xSt → xSt} (hf : ∀ i T1 T2, i < n → SIM P N Q D T1 T2 → SIM P N Q D (f i T1) (f i T2)) : ∀ j i T1 T2, i + j ≤ n → SIM P N Q D T1 T2 → SIM P N Q D (itF f j i T1) (itF f j i T2)
  | 0, _, _, _, _, h => h
  | j + 1, i, T1, T2, hn, h => SM_it hf j (i + 1) _ _ (by omega) (hf i T1 T2 (by omega) h)
theorem not_le_w {a : Int32} {P : Nat} (hP : P ≤ 8) (ha : bd a 7) (h : ¬ nI P ≤ a) : vN a < P := by
  obtain ⟨m, hm, e⟩ := ha
  rw [e] at h ⊢
  rw [vN_nI (by omega)]
  exact Nat.not_le.mp (fun z => h (nI_le z (by omega)))
section SMS
variable {P N Q D : Nat} {T1 T2 : xSt}
theorem SM_e {p : Nat} (h : SIM P N Q D T1 T2) (hp : p < N) : T1 6 p = T2 6 p ∧ T1 7 p = T2 7 p ∧ T1 8 p = T2 8 p ∧ T1 9 p = T2 9 p ∧ wN T1 p = wN T2 p := by
  have z := h.1.2.2.2.2.2.2.2.2.1 p hp
  exact ⟨z.1, z.2.1, z.2.2.1, z.2.2.2, by unfold wN; rw [z.1]⟩
theorem SM_k {k : Nat} (h : SIM P N Q D T1 T2) (hk : k < P) : T1 3 k = T2 3 k ∧ T1 4 k = T2 4 k := h.1.2.2.2.2.2.2.2.1 k hk
theorem SM_mk (day : Int32) (p : Nat) (hp : p < N) (h : SIM P N Q D T1 T2) : SIM P N Q D (mkF day p T1) (mkF day p T2) := by
  obtain ⟨e6, e7, e8, -, ew⟩ := SM_e h hp
  unfold mkF mkS
  rw [e8, e6, h.1.2.1.1, h.1.2.1.2, ew]
  by_cases c : T2 8 p = day
  · rw [if_pos c, if_pos c]
    by_cases c2 : nI P ≤ T2 6 p
    · rw [if_pos c2, if_pos c2]; exact h
    · rw [if_neg c2, if_neg c2]
      have hw : wN T2 p < P := not_le_w h.1.1.1 (h.1.2.2.2.2.2.2.2.2.2.1 p hp) c2
      rw [(SM_k h hw).1, e7]
      exact SM_cut hw (SM_w (by omega) (fun _ _ => hw) h)
  · rw [if_neg c, if_neg c]; exact h
theorem SM_kp (day : Int32) (i : Nat) (hi : i < Q) (h : SIM P N Q D T1 T2) : SIM P N Q D (kpF day i T1) (kpF day i T2) := by
  have z := h.1.2.2.2.2.2.2.2.2.2.2.1 i hi
  unfold kpF
  rw [z.1, z.2, h.1.2.2.2.2.2.1.1, h.1.2.2.1.1, h.1.2.2.1.2]
  have hpb : vN (T2 24 i) < 2 ^ 31 := by unfold vN; have := Int32.toInt_lt (T2 24 i); unfold Int32.toNatClampNeg; omega
  generalize vN (T2 24 i) = p at *
  by_cases c : T2 23 i = day
  · rw [if_pos c, if_pos c]
    by_cases c1 : isI (T2 25 0) (nI i)
    · rw [if_pos c1, if_pos c1]; exact h
    · rw [if_neg c1, if_neg c1]
      by_cases c2 : nI N ≤ nI p
      · rw [if_pos c2, if_pos c2]; exact h
      · rw [if_neg c2, if_neg c2]
        by_cases hp : p < N
        · rw [(h.2.2.1 p hp).1]
          by_cases c3 : T2 29 p = nI 1
          · rw [if_pos c3, if_pos c3]
            have hw := (h.2.2.1 p hp).2 c3
            obtain ⟨e6, e7, e8, -, ew⟩ := SM_e h hp
            unfold ktS
            rw [ew, (SM_k h hw).2, (h.2.1 _ hw).1, e7]
            exact SM_cut hw (SM_w (by omega) (fun _ z => absurd z (by decide +kernel)) h)
          · rw [if_neg c3, if_neg c3]; exact h
        · exact absurd (nI_le (Nat.le_of_not_lt hp) hpb) c2
  · rw [if_neg c, if_neg c]; exact h
theorem SM_br (day : Int32) (p : Nat) (hp : p < N) (h : SIM P N Q D T1 T2) : SIM P N Q D (brF day p T1) (brF day p T2) := by
  obtain ⟨e6, e7, e8, e9, ew⟩ := SM_e h hp
  unfold brF
  rw [e9, (h.2.2.1 p hp).1]
  by_cases c : T2 9 p = day
  · rw [if_pos c, if_pos c]
    by_cases c3 : T2 29 p = nI 1
    · rw [if_pos c3, if_pos c3]
      have hw := (h.2.2.1 p hp).2 c3
      unfold brS brX
      rw [ew, (SM_k h hw).1, e7]
      have h2 := SM_cut (x := -(lenI (T2 3 (wN T2 p)) (T2 7 p)) - (if T2 3 (wN T2 p) = nI 2 then nI 2 else nI 0)) hw (SM_w (j := 29) (i := p) (v := nI 3) (by omega) (fun _ z => absurd z (by decide +kernel)) h)
      unfold brT
      rw [(h2.2.1 _ hw).2]
      exact SM_w (by omega) (fun z => by omega) h2
    · rw [if_neg c3, if_neg c3]; exact h
  · rw [if_neg c, if_neg c]; exact h
theorem SM_ly (day : Int32) (i : Nat) (hi : i < 6) (h : SIM P N Q D T1 T2) : SIM P N Q D (lyF day i T1) (lyF day i T2) := by
  have g := h.1.2.2.2.2.2.2.1
  unfold lyF
  rw [g 14 (by omega) (by omega), g 15 (by omega) (by omega), g 16 (by omega) (by omega), h.1.2.1.1, h.1.2.1.2, h.1.2.2.2.2.2.1.2]
  by_cases c : T2 14 i = day
  · rw [if_pos c, if_pos c]
    by_cases c1 : nI P ≤ T2 15 i
    · rw [if_pos c1, if_pos c1]; exact h
    · rw [if_neg c1, if_neg c1]
      by_cases c2 : isI (T2 26 0) (nI i)
      · rw [if_pos c2, if_pos c2]; exact h
      · rw [if_neg c2, if_neg c2]
        exact SM_cut (not_le_w h.1.1.1 (h.1.2.2.2.2.2.2.2.2.2.2.2.1 i hi).1 c1) h
  · rw [if_neg c, if_neg c]; exact h
theorem SM_lt (day : Int32) (i : Nat) (hi : i < 6) (h : SIM P N Q D T1 T2) : SIM P N Q D (ltF day i T1) (ltF day i T2) := by
  have g := h.1.2.2.2.2.2.2.1
  unfold ltF
  rw [g 18 (by omega) (by omega), g 19 (by omega) (by omega), g 20 (by omega) (by omega), h.1.2.1.1, h.1.2.1.2]
  by_cases c : T2 18 i = day
  · rw [if_pos c, if_pos c]
    by_cases c1 : nI P ≤ T2 19 i
    · rw [if_pos c1, if_pos c1]; exact h
    · rw [if_neg c1, if_neg c1]
      exact SM_cut (not_le_w h.1.1.1 (h.1.2.2.2.2.2.2.2.2.2.2.2.1 i hi).2 c1) h
  · rw [if_neg c, if_neg c]; exact h
theorem SM_rc (d i : Nat) (hi : i < P) (h : SIM P N Q D T1 T2) : SIM P N Q D (rcF d i T1) (rcF d i T2) := by
  unfold rcF
  rw [(h.2.1 i hi).1, (h.2.1 i hi).2]
  exact SM_w (by omega) (fun z => by omega) (SM_w (by omega) (fun z => by omega) h)
theorem SM_rs (d i : Nat) (hi : i < N) (h : SIM P N Q D T1 T2) : SIM P N Q D (rsF d i T1) (rsF d i T2) := by
  unfold rsF
  rw [(h.2.2.1 i hi).1]
  exact SM_w (by omega) (fun z => by omega) h
end SMS
theorem rc_v {d : Nat} : ∀ j i (S : xSt) (r q : Nat), itF (rcF d) j i S r q = if r = 30 ∧ 8 * d + i ≤ q ∧ q < 8 * d + i + j then S 27 (q - 8 * d) else if r = 31 ∧ 8 * d + i ≤ q ∧ q < 8 * d + i + j then S 28 (q - 8 * d) else S r q
  | 0, i, S, r, q => by rw [if_neg (by omega), if_neg (by omega)]; rfl
  | j + 1, i, S, r, q => by
    show itF (rcF d) j (i + 1) (rcF d i S) r q = _
    rw [rc_v j (i + 1)]
    have e27 : ∀ u, rcF d i S 27 u = S 27 u := fun u => (mwr_r _ _ _ _ (by decide)).trans (mwr_r _ _ _ _ (by decide))
    have e28 : ∀ u, rcF d i S 28 u = S 28 u := fun u => (mwr_r _ _ _ _ (by decide)).trans (mwr_r _ _ _ _ (by decide))
    rw [e27, e28]
    by_cases a : r = 30 ∧ 8 * d + (i + 1) ≤ q ∧ q < 8 * d + (i + 1) + j
    · rw [if_pos a, if_pos (by omega)]
    · rw [if_neg a]
      by_cases b : r = 31 ∧ 8 * d + (i + 1) ≤ q ∧ q < 8 * d + (i + 1) + j
      · rw [if_pos b, if_neg (by omega), if_pos (by omega)]
      · rw [if_neg b]
        unfold rcF mwr
        by_cases c : r = 31 ∧ q = 8 * d + i
        · rw [if_pos c, if_neg (by omega), if_pos (by omega), c.2, show 8 * d + i - 8 * d = i from by omega]
        · rw [if_neg c]
          by_cases c2 : r = 30 ∧ q = 8 * d + i
          · rw [if_pos c2, if_pos (by omega), c2.2, show 8 * d + i - 8 * d = i from by omega]
          · rw [if_neg c2, if_neg (by omega), if_neg (by omega)]
theorem rs_v {d : Nat} : ∀ j i (S : xSt) (r q : Nat), itF (rsF d) j i S r q = if r = 32 ∧ 12 * d + i ≤ q ∧ q < 12 * d + i + j then S 29 (q - 12 * d) else S r q
  | 0, i, S, r, q => by rw [if_neg (by omega)]; rfl
  | j + 1, i, S, r, q => by
    show itF (rsF d) j (i + 1) (rsF d i S) r q = _
    rw [rs_v j (i + 1)]
    have e29 : ∀ u, rsF d i S 29 u = S 29 u := fun u => mwr_r _ _ _ _ (by decide)
    rw [e29]
    by_cases a : r = 32 ∧ 12 * d + (i + 1) ≤ q ∧ q < 12 * d + (i + 1) + j
    · rw [if_pos a, if_pos (by omega)]
    · rw [if_neg a]
      unfold rsF mwr
      by_cases c : r = 32 ∧ q = 12 * d + i
      · rw [if_pos c, if_pos (by omega), c.2, show 12 * d + i - 12 * d = i from by omega]
      · rw [if_neg c, if_neg (by omega)]
section SMG
variable {P N Q d : Nat} {T1 T2 : xSt}
theorem SM_makes (h : SIM P N Q d T1 T2) : SIM P N Q d (makesF (nI d) T1) (makesF (nI d) T2) := by
  have hN := h.1.1.2.1
  unfold makesF
  rw [h.1.2.2.2.1.1, h.1.2.2.2.1.2, vN_nI (by omega)]
  exact SM_it (n := N) (fun i _ _ hi g => SM_mk _ i hi g) N 0 _ _ (by omega) h
theorem SM_keeps (h : SIM P N Q d T1 T2) : SIM P N Q d (keepsF (nI d) T1) (keepsF (nI d) T2) := by
  have hQ := h.1.1.2.2
  unfold keepsF
  rw [h.1.2.2.2.2.1.1, h.1.2.2.2.2.1.2, vN_nI (by omega)]
  exact SM_it (n := Q) (fun i _ _ hi g => SM_kp _ i hi g) Q 0 _ _ (by omega) h
theorem SM_breaks (h : SIM P N Q d T1 T2) : SIM P N Q d (breaksF (nI d) T1) (breaksF (nI d) T2) := by
  have hN := h.1.1.2.1
  unfold breaksF
  rw [h.1.2.2.2.1.1, h.1.2.2.2.1.2, vN_nI (by omega)]
  exact SM_it (n := N) (fun i _ _ hi g => SM_br _ i hi g) N 0 _ _ (by omega) h
theorem SM_lies (h : SIM P N Q d T1 T2) : SIM P N Q d (liesF (nI d) T1) (liesF (nI d) T2) := by
  have z := bd_v h.1.2.2.2.2.2.2.2.2.2.2.2.2.1 (by decide)
  unfold liesF
  rw [h.1.2.2.2.2.2.2.1 13 (by omega) (by omega)]
  exact SM_it (n := 6) (fun i _ _ hi g => SM_ly _ i hi g) _ 0 _ _ (by omega) h
theorem SM_lets (h : SIM P N Q d T1 T2) : SIM P N Q d (letsF (nI d) T1) (letsF (nI d) T2) := by
  have z := bd_v h.1.2.2.2.2.2.2.2.2.2.2.2.2.2 (by decide)
  unfold letsF
  rw [h.1.2.2.2.2.2.2.1 17 (by omega) (by omega)]
  exact SM_it (n := 6) (fun i _ _ hi g => SM_lt _ i hi g) _ 0 _ _ (by omega) h
theorem SM_recs (h : SIM P N Q d T1 T2) : SIM P N Q d (recsF d T1) (recsF d T2) ∧ ∀ k, k < P → recsF d T1 30 (8 * d + k) = recsF d T2 30 (8 * d + k) ∧ recsF d T1 31 (8 * d + k) = recsF d T2 31 (8 * d + k) := by
  have hP := h.1.1.1
  unfold recsF
  rw [h.1.2.1.1, h.1.2.1.2, vN_nI (by omega)]
  refine ⟨SM_it (n := P) (fun i _ _ hi g => SM_rc d i hi g) P 0 _ _ (by omega) h, fun k hk => ?_⟩
  rw [rc_v, rc_v, rc_v, rc_v, if_pos (by omega), if_pos (by omega), if_neg (by omega), if_pos (by omega), if_neg (by omega), if_pos (by omega), show 8 * d + k - 8 * d = k from by omega]
  exact h.2.1 k hk
theorem SM_ress (h : SIM P N Q d T1 T2) (r6 : ∀ k, k < P → T1 30 (8 * d + k) = T2 30 (8 * d + k) ∧ T1 31 (8 * d + k) = T2 31 (8 * d + k)) : SIM P N Q (d + 1) (ressF d T1) (ressF d T2) := by
  have hN := h.1.1.2.1
  have v7 : ∀ G : xSt, G 21 0 = nI N → ∀ r q, ressF d G r q = if r = 32 ∧ 12 * d + 0 ≤ q ∧ q < 12 * d + 0 + N then G 29 (q - 12 * d) else G r q := by
    intro G hG r q
    unfold ressF
    rw [hG, vN_nI (by omega)]
    exact rs_v N 0 G r q
  have a1 := v7 T1 h.1.2.2.2.1.1
  have a2 := v7 T2 h.1.2.2.2.1.2
  have h7 : SIM P N Q d (ressF d T1) (ressF d T2) := by
    unfold ressF
    rw [h.1.2.2.2.1.1, h.1.2.2.2.1.2, vN_nI (by omega)]
    exact SM_it (n := N) (fun i _ _ hi g => SM_rs d i hi g) N 0 _ _ (by omega) h
  refine ⟨h7.1, h7.2.1, h7.2.2.1, fun e he => ?_⟩
  by_cases c : e < d
  · exact h7.2.2.2 e c
  · have ed : e = d := by omega
    rw [ed]
    refine ⟨fun k hk => ?_, fun p hp => ?_⟩
    · rw [a1, a2, a1, a2, if_neg (by omega), if_neg (by omega), if_neg (by omega), if_neg (by omega)]
      exact r6 k hk
    · rw [a1, a2, if_pos (by omega), if_pos (by omega), show 12 * d + p - 12 * d = p from by omega]
      exact (h.2.2.1 p hp).1
theorem SM_go (h : SIM P N Q d T1 T2) : SIM P N Q (d + 1) (goesF d T1) (goesF d T2) := by
  unfold goesF
  have z := SM_recs (SM_lets (SM_lies (SM_breaks (SM_keeps (SM_makes h)))))
  exact SM_ress z.1 z.2
end SMG
theorem SM_days {P N Q : Nat} : ∀ j d {T1 T2 : xSt}, SIM P N Q d T1 T2 → SIM P N Q (d + j) (itF goesF j d T1) (itF goesF j d T2)
  | 0, _, _, _, h => h
  | j + 1, d, _, _, h => by
    have z := SM_days j (d + 1) (SM_go h)
    rw [show d + 1 + j = d + (j + 1) from by omega] at z
    exact z
theorem st1_v : ∀ j i (S : xSt) (r q : Nat), itF st1F j i S r q = if r = 27 ∧ i ≤ q ∧ q < i + j then S 4 q else if r = 28 ∧ i ≤ q ∧ q < i + j then nI 0 else S r q
  | 0, i, S, r, q => by rw [if_neg (by omega), if_neg (by omega)]; rfl
  | j + 1, i, S, r, q => by
    show itF st1F j (i + 1) (st1F i S) r q = _
    rw [st1_v j (i + 1)]
    have e4 : ∀ u, st1F i S 4 u = S 4 u := fun u => (mwr_r _ _ _ _ (by decide)).trans (mwr_r _ _ _ _ (by decide))
    rw [e4]
    by_cases a : r = 27 ∧ i + 1 ≤ q ∧ q < i + 1 + j
    · rw [if_pos a, if_pos (by omega)]
    · rw [if_neg a]
      by_cases b : r = 28 ∧ i + 1 ≤ q ∧ q < i + 1 + j
      · rw [if_pos b, if_neg (by omega), if_pos (by omega)]
      · rw [if_neg b]
        unfold st1F mwr
        by_cases c : r = 28 ∧ q = i
        · rw [if_pos c, if_neg (by omega), if_pos (by omega)]
        · rw [if_neg c]
          by_cases c2 : r = 27 ∧ q = i
          · rw [if_pos c2, if_pos (by omega), c2.2]
          · rw [if_neg c2, if_neg (by omega), if_neg (by omega)]
theorem st2_v : ∀ j i (S : xSt) (r q : Nat), itF st2F j i S r q = if r = 29 ∧ i ≤ q ∧ q < i + j then nI 0 else S r q
  | 0, i, S, r, q => by rw [if_neg (by omega)]; rfl
  | j + 1, i, S, r, q => by
    show itF st2F j (i + 1) (st2F i S) r q = _
    rw [st2_v j (i + 1)]
    by_cases a : r = 29 ∧ i + 1 ≤ q ∧ q < i + 1 + j
    · rw [if_pos a, if_pos (by omega)]
    · rw [if_neg a]
      unfold st2F mwr
      by_cases c : r = 29 ∧ q = i
      · rw [if_pos c, if_pos (by omega)]
      · rw [if_neg c, if_neg (by omega)]
/-- two plans that say the same: what their days leave is the same -/
theorem SM_run {P N Q : Nat} {T1 T2 : xSt} (h : SAm P N Q T1 T2) : SIM P N Q 24 (runsF T1) (runsF T2) := by
  have hP := h.1.1
  have hN := h.1.2.1
  have e : ∀ T : xSt, T 2 0 = nI P → T 21 0 = nI N → ∀ r q, st2sF (st1sF T) r q = if r = 29 ∧ 0 ≤ q ∧ q < 0 + N then nI 0 else if r = 27 ∧ 0 ≤ q ∧ q < 0 + P then T 4 q else if r = 28 ∧ 0 ≤ q ∧ q < 0 + P then nI 0 else T r q := by
    intro T h2 h21 r q
    unfold st2sF
    have e21 : st1sF T 21 0 = nI N := by
      unfold st1sF
      rw [st1_v, if_neg (by omega), if_neg (by omega)]
      exact h21
    rw [e21, vN_nI (by omega), st2_v]
    unfold st1sF
    rw [h2, vN_nI (by omega), st1_v]
  have g1 := e T1 h.2.1.1 h.2.2.2.1.1
  have g2 := e T2 h.2.1.2 h.2.2.2.1.2
  have f1 : fr T1 (st2sF (st1sF T1)) := fr_tr (fr_it st1F_fr _ _ _) (fr_it st2F_fr _ _ _)
  have f2 : fr T2 (st2sF (st1sF T2)) := fr_tr (fr_it st1F_fr _ _ _) (fr_it st2F_fr _ _ _)
  have h0 : SIM P N Q 0 (st2sF (st1sF T1)) (st2sF (st1sF T2)) := by
    refine ⟨SAm_fr f1 f2 h, fun k hk => ?_, fun p hp => ?_, fun e he => absurd he (by omega)⟩
    · rw [g1, g2, g1, g2, if_neg (by omega), if_pos (by omega), if_neg (by omega), if_pos (by omega), if_neg (by omega), if_neg (by omega), if_pos (by omega), if_neg (by omega), if_neg (by omega), if_pos (by omega)]
      exact ⟨(h.2.2.2.2.2.2.2.1 k hk).2, rfl⟩
    · rw [g1, g2, if_pos (by omega), if_pos (by omega)]
      exact ⟨rfl, fun z => absurd z (by decide +kernel)⟩
  have z := SM_days 24 0 h0
  exact z

