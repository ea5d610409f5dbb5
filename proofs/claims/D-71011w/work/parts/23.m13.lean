/-! what holds of the model's numbers is kept -/
set_option maxRecDepth 100000
theorem MI_LI {R S : xSt} (hR : MI R) (h : LI R S) : MI S := by
  have e := h.2.2
  have p := h.1
  unfold MI tI at *
  rw [e 0 (by omega), e 10 (by omega), e 12 (by omega), e 13 (by omega), e 15 (by omega), e 17 (by omega), e 19 (by omega), e 34 (by omega), e 35 (by omega), e 36 (by omega), e 41 (by omega)]
  exact ⟨hR.1, p.2.2.2.2.1, hR.2.2.1, hR.2.2.2.1, p.2.2.2.2.2.1, hR.2.2.2.2.2⟩
/-- after a reading -/
def DV (S : xSt) : Prop := MI S ∧ bd (S 2 0) 8 ∧ bd (S 5 0) 10
theorem DV_LI {S S' : xSt} (hS : MI S) (h : LI (asToldF S) S') : DV S' := ⟨MI_LI (MI_asTold hS) h, h.1.1, h.1.2.1⟩
theorem DV_RT {S : xSt} (hS : MI S) : DV (RT S) := DV_LI hS (LI_run (LI_0 hS))
theorem DV_reads {S : xSt} (hS : MI S) : DV (readsF S) := ⟨MI_reads hS, (readsF_b hS.2.1).2⟩
section
variable {R : xSt}
theorem LI_sw (m day k : Nat) : ∀ j v a S, LI R S → LI R (swK m day k j v a S).2
  | 0, _, _, _, h => h
  | j + 1, v, a, S, h => by
    rw [swK_s]
    split
    · exact LI_sw m day k j _ _ _ (LI_run (LI_wr (by omega) h))
    · exact h
theorem LI_kb (q : Nat) : ∀ j p b m S, p + j ≤ 10 → LI R S → LI R (kbK q j p b m S).2.2
  | 0, _, _, _, _, _, h => h
  | j + 1, p, b, m, S, hj, h => by
    rw [kbK_s]
    exact LI_kb q j _ _ _ _ (by omega) (LI_run (LI_w24 ⟨p, by omega, rfl⟩ h))
theorem LI_du (q : Nat) : ∀ j p b m S, LI R S → LI R (duK q j p b m S).2.2
  | 0, _, _, _, _, h => h
  | j + 1, p, b, m, S, h => by
    rw [duK_s]
    exact LI_du q j _ _ _ _ (LI_run (LI_wr (by omega) h))
theorem LI_hb2 (a : Nat) {K : xSt → Int32 × xSt} (hK : ∀ S, LI R S → LI R (K S).2) : ∀ j b S, LI R S → LI R (hb2 a K j b S).2
  | 0, _, _, h => hK _ h
  | j + 1, b, S, h => by
    have h2 := LI_hs (sh1 a ||| sh1 b) (LI_wr (j := 33) (i := 1) (v := nI b) (by omega) (LI_wr (j := 33) (i := 0) (v := nI a) (by omega) h))
    rw [hb2_s]
    by_cases c : hsQ (sh1 a ||| sh1 b) (hbW a b S)
    · rw [if_pos c]; dsimp only; exact h2
    · rw [if_neg c]; exact LI_hb2 a hK j _ _ h2
theorem LI_hb1 (n : Nat) : ∀ j a S, LI R S → LI R (hb1 n j a S).2
  | 0, _, _, h => h
  | j + 1, a, S, h => by
    rw [hb1_s]
    exact LI_hb2 a (fun S' h' => LI_hb1 n j (a + 1) S' h') _ _ _ h
theorem LI_hb0 (n : Nat) : ∀ j a S, LI R S → LI R (hb0 n j a S).2
  | 0, _, _, h => LI_hb1 n n 0 _ h
  | j + 1, a, S, h => by
    have h2 := LI_hs (sh1 a) (LI_wr (j := 33) (i := 0) (v := nI a) (by omega) h)
    rw [hb0_s]
    by_cases c : hsQ (sh1 a) (mwr S 33 0 (nI a))
    · rw [if_pos c]; dsimp only; exact h2
    · rw [if_neg c]; exact LI_hb0 n j _ _ h2
theorem LI_nv : ∀ j i a S, LI R S → LI R (nvK j i a S).2
  | 0, _, _, _, h => h
  | j + 1, i, a, S, h => by
    rw [nvK_s]
    exact LI_nv j _ _ _ (LI_run (LI_wr (by omega) h))
theorem LI_szK (k : Nat) : ∀ j v a S, LI R S → LI R (szK k j v a S).2
  | 0, _, _, _, h => h
  | j + 1, v, a, S, h => by
    rw [szK_s]
    exact LI_szK k j _ _ _ (LI_sz k v (LI_run (LI_wr (by omega) h)))
theorem LI_soK (k : Nat) : ∀ j v a S, LI R S → LI R (soK k j v a S).2
  | 0, _, _, _, h => h
  | j + 1, v, a, S, h => by
    rw [soK_s]
    exact LI_soK k j _ _ _ (LI_run (LI_wr (by omega) h))
theorem LI_wo (c k day q : Nat) : ∀ j s a S, LI R S → LI R (woK c k day q j s a S).2
  | 0, _, _, _, h => h
  | j + 1, s, a, S, h => by
    rw [woK_s]
    by_cases c0 : wtF c q s = 0
    · rw [if_pos c0]; exact LI_wo c k day q j _ _ _ h
    · rw [if_neg c0]; exact LI_wo c k day q j _ _ _ (LI_run (LI_wr (by omega) h))
theorem LI_yr {pr : Nat} (hpr : pr ≤ 10) (hp0 : 0 < pr) : ∀ j i now S, LI R S → LI R (yrK pr j i now S)
  | 0, _, _, _, h => h
  | j + 1, i, now, S, h => by
    rw [yrK_s]
    have := Nat.mod_lt (hN (lcI (lcI now))) hp0
    exact LI_yr hpr hp0 j _ _ _ (LI_w24 ⟨_, by omega, rfl⟩ (LI_wr (by omega) h))
end
theorem DV_sw {S : xSt} (hS : MI S) {k day : Nat} (hk : k < 8) : DV (swearF k day (asToldF S)).2 := by
  obtain ⟨m, hm, h0⟩ := (PV_asTold hS).2.1
  have hL := LI_0 hS
  apply DV_LI hS
  generalize asToldF S = R at *
  unfold swearF
  apply LI_sw
  unfold swS
  rw [h0, vN_nI (by omega)]
  exact LI_wr (by omega) (LI_wr (by omega) (LI_w6 ⟨k, by omega, rfl⟩ (LI_w21 ⟨m + 1, by omega, rfl⟩ hL)))
theorem DV_kb {S : xSt} (hS : MI S) {d : Nat} {what : Int32} : DV (keepF d what (asToldF S)).2 := by
  obtain ⟨m, hm, h0⟩ := (PV_asTold hS).2.1
  obtain ⟨q, hq, hq0⟩ : bd (asToldF S 10 0) 8 := (MI_asTold hS).2.2.1
  have hL := LI_0 hS
  apply DV_LI hS
  generalize asToldF S = R at *
  unfold keepF kbF
  dsimp only
  apply LI_kb
  · rw [h0, vN_nI (by omega)]
    omega
  · rw [hq0, vN_nI (by omega)]
    exact LI_wr (by omega) (LI_w22 ⟨q + 1, by omega, rfl⟩ hL)
theorem DV_du {S : xSt} (hS : MI S) {p : Nat} {what : Int32} : DV (dueF p what (asToldF S)).2 := by
  have hL := LI_0 hS
  apply DV_LI hS
  generalize asToldF S = R at *
  unfold dueF duF
  dsimp only
  apply LI_wr (by omega)
  exact LI_du _ _ _ _ _ _ hL
theorem DV_hu {S : xSt} (hS : MI S) : DV (hushF (asToldF S)).2 := by
  have hL := LI_0 hS
  apply DV_LI hS
  generalize asToldF S = R at *
  unfold hushF
  by_cases c : hsQ (nI 0) R
  · rw [if_pos c]; dsimp only; exact LI_hs _ hL
  · rw [if_neg c]; exact LI_hb0 _ _ _ _ (LI_hs _ hL)
theorem DV_nv {S : xSt} (hS : MI S) : DV (neverF (asToldF S)).2 := by
  have hL := LI_0 hS
  apply DV_LI hS
  generalize asToldF S = R at *
  unfold neverF
  exact LI_nv _ _ _ _ hL
theorem DV_sz {S : xSt} (hS : MI S) {k : Nat} : DV (sizesF k (asToldF S)).2 := by
  have hL := LI_0 hS
  apply DV_LI hS
  generalize asToldF S = R at *
  unfold sizesF szR
  dsimp only
  apply LI_wr (by omega)
  exact LI_szK _ _ _ _ _ hL
theorem DV_so {S : xSt} (hS : MI S) {k : Nat} : DV (sortsF k (asToldF S)).2 := by
  have hL := LI_0 hS
  apply DV_LI hS
  generalize asToldF S = R at *
  unfold sortsF soR
  dsimp only
  apply LI_wr (by omega)
  exact LI_soK _ _ _ _ _ hL
theorem DV_ak {S : xSt} (hS : MI S) {k : Nat} : DV (askF k (asToldF S)).2 := by
  unfold askF
  dsimp only
  exact DV_sz hS
theorem DV_wo {S : xSt} (hS : MI S) {c k day : Nat} {what : Int32} : DV (wordF c k day what (asToldF S)).2 := by
  have hL := LI_0 hS
  apply DV_LI hS
  generalize asToldF S = R at *
  unfold wordF woF
  dsimp only
  exact LI_wo _ _ _ _ _ _ _ _ hL
theorem DV_yr {S : xSt} (hS : MI S) {seed : Int32} {n : Nat} {what : Int32} (hn : n ≤ 8) : DV (yearF seed n what (asToldF S)).2 := by
  obtain ⟨m, hm, h0⟩ := (PV_asTold hS).2.1
  have hL := LI_0 hS
  apply DV_LI hS
  generalize asToldF S = R at *
  unfold yearF yearR yrR
  dsimp only
  apply LI_run
  by_cases e : R 5 0 = 0
  · rw [if_pos e]
    exact LI_w22 ⟨0, by omega, rfl⟩ hL
  · rw [if_neg e]
    have hm0 : 0 < m := Nat.pos_of_ne_zero fun z => e (by rw [h0, z]; rfl)
    apply LI_yr
    · rw [h0, vN_nI (by omega)]; exact hm
    · rw [h0, vN_nI (by omega)]; exact hm0
    · exact LI_w22 ⟨n, by omega, rfl⟩ hL
/-! the public methods -/
theorem MI_wr {S : xSt} {j i : Nat} {v : Int32} (h : (0 < j ∧ j < 6) ∨ (6 < j ∧ j < 10) ∨ j = 11 ∨ j = 14 ∨ j = 16 ∨ j = 18 ∨ (19 < j ∧ j < 24) ∨ (24 < j ∧ j < 34) ∨ (36 < j ∧ j < 41) ∨ 41 < j) (hS : MI S) : MI (mwr S j i v) := by
  unfold MI tI at *
  rw [mwr_R _ _ _ (show 0 ≠ j by omega), mwr_R _ _ _ (show 6 ≠ j by omega), mwr_R _ _ _ (show 10 ≠ j by omega), mwr_R _ _ _ (show 12 ≠ j by omega), mwr_R _ _ _ (show 24 ≠ j by omega), mwr_R _ _ _ (show 13 ≠ j by omega), mwr_R _ _ _ (show 15 ≠ j by omega), mwr_R _ _ _ (show 17 ≠ j by omega), mwr_R _ _ _ (show 19 ≠ j by omega), mwr_R _ _ _ (show 34 ≠ j by omega), mwr_R _ _ _ (show 35 ≠ j by omega), mwr_R _ _ _ (show 36 ≠ j by omega), mwr_R _ _ _ (show 41 ≠ j by omega)]
  exact hS

theorem MI_w6 {S : xSt} {i : Nat} {v : Int32} (hv : bd v 7) (hS : MI S) : MI (mwr S 6 i v) := by
  unfold MI tI at *
  rw [mwr_R _ _ _ (show 0 ≠ 6 by decide), mwr_R _ _ _ (show 10 ≠ 6 by decide), mwr_R _ _ _ (show 12 ≠ 6 by decide), mwr_R _ _ _ (show 24 ≠ 6 by decide), mwr_R _ _ _ (show 13 ≠ 6 by decide), mwr_R _ _ _ (show 15 ≠ 6 by decide), mwr_R _ _ _ (show 17 ≠ 6 by decide), mwr_R _ _ _ (show 19 ≠ 6 by decide), mwr_R _ _ _ (show 34 ≠ 6 by decide), mwr_R _ _ _ (show 35 ≠ 6 by decide), mwr_R _ _ _ (show 36 ≠ 6 by decide), mwr_R _ _ _ (show 41 ≠ 6 by decide)]
  exact ⟨hS.1, bdw hS.2.1 hv, hS.2.2.1, hS.2.2.2.1, hS.2.2.2.2.1, hS.2.2.2.2.2.1, hS.2.2.2.2.2.2.1, hS.2.2.2.2.2.2.2.1, hS.2.2.2.2.2.2.2.2.1, hS.2.2.2.2.2.2.2.2.2.1, hS.2.2.2.2.2.2.2.2.2.2.1, hS.2.2.2.2.2.2.2.2.2.2.2.1, hS.2.2.2.2.2.2.2.2.2.2.2.2⟩
theorem MI_w10 {S : xSt} {v : Int32} (hv : bd v 8) (hS : MI S) : MI (mwr S 10 0 v) := by
  unfold MI tI at *
  rw [mwr_R _ _ _ (show 0 ≠ 10 by decide), mwr_R _ _ _ (show 6 ≠ 10 by decide), mwr_R _ _ _ (show 12 ≠ 10 by decide), mwr_R _ _ _ (show 24 ≠ 10 by decide), mwr_R _ _ _ (show 13 ≠ 10 by decide), mwr_R _ _ _ (show 15 ≠ 10 by decide), mwr_R _ _ _ (show 17 ≠ 10 by decide), mwr_R _ _ _ (show 19 ≠ 10 by decide), mwr_R _ _ _ (show 34 ≠ 10 by decide), mwr_R _ _ _ (show 35 ≠ 10 by decide), mwr_R _ _ _ (show 36 ≠ 10 by decide), mwr_R _ _ _ (show 41 ≠ 10 by decide), mwr_s]
  exact ⟨hS.1, hS.2.1, hv, hS.2.2.2.1, hS.2.2.2.2.1, hS.2.2.2.2.2.1, hS.2.2.2.2.2.2.1, hS.2.2.2.2.2.2.2.1, hS.2.2.2.2.2.2.2.2.1, hS.2.2.2.2.2.2.2.2.2.1, hS.2.2.2.2.2.2.2.2.2.2.1, hS.2.2.2.2.2.2.2.2.2.2.2.1, hS.2.2.2.2.2.2.2.2.2.2.2.2⟩
theorem MI_w12 {S : xSt} {i : Nat} {v : Int32} (hv : bd v 9) (hS : MI S) : MI (mwr S 12 i v) := by
  unfold MI tI at *
  rw [mwr_R _ _ _ (show 0 ≠ 12 by decide), mwr_R _ _ _ (show 6 ≠ 12 by decide), mwr_R _ _ _ (show 10 ≠ 12 by decide), mwr_R _ _ _ (show 24 ≠ 12 by decide), mwr_R _ _ _ (show 13 ≠ 12 by decide), mwr_R _ _ _ (show 15 ≠ 12 by decide), mwr_R _ _ _ (show 17 ≠ 12 by decide), mwr_R _ _ _ (show 19 ≠ 12 by decide), mwr_R _ _ _ (show 34 ≠ 12 by decide), mwr_R _ _ _ (show 35 ≠ 12 by decide), mwr_R _ _ _ (show 36 ≠ 12 by decide), mwr_R _ _ _ (show 41 ≠ 12 by decide)]
  exact ⟨hS.1, hS.2.1, hS.2.2.1, bdw hS.2.2.2.1 hv, hS.2.2.2.2.1, hS.2.2.2.2.2.1, hS.2.2.2.2.2.2.1, hS.2.2.2.2.2.2.2.1, hS.2.2.2.2.2.2.2.2.1, hS.2.2.2.2.2.2.2.2.2.1, hS.2.2.2.2.2.2.2.2.2.2.1, hS.2.2.2.2.2.2.2.2.2.2.2.1, hS.2.2.2.2.2.2.2.2.2.2.2.2⟩
theorem MI_w24 {S : xSt} {i : Nat} {v : Int32} (hv : bd v 9) (hS : MI S) : MI (mwr S 24 i v) := by
  unfold MI tI at *
  rw [mwr_R _ _ _ (show 0 ≠ 24 by decide), mwr_R _ _ _ (show 6 ≠ 24 by decide), mwr_R _ _ _ (show 10 ≠ 24 by decide), mwr_R _ _ _ (show 12 ≠ 24 by decide), mwr_R _ _ _ (show 13 ≠ 24 by decide), mwr_R _ _ _ (show 15 ≠ 24 by decide), mwr_R _ _ _ (show 17 ≠ 24 by decide), mwr_R _ _ _ (show 19 ≠ 24 by decide), mwr_R _ _ _ (show 34 ≠ 24 by decide), mwr_R _ _ _ (show 35 ≠ 24 by decide), mwr_R _ _ _ (show 36 ≠ 24 by decide), mwr_R _ _ _ (show 41 ≠ 24 by decide)]
  exact ⟨hS.1, hS.2.1, hS.2.2.1, hS.2.2.2.1, bdw hS.2.2.2.2.1 hv, hS.2.2.2.2.2.1, hS.2.2.2.2.2.2.1, hS.2.2.2.2.2.2.2.1, hS.2.2.2.2.2.2.2.2.1, hS.2.2.2.2.2.2.2.2.2.1, hS.2.2.2.2.2.2.2.2.2.2.1, hS.2.2.2.2.2.2.2.2.2.2.2.1, hS.2.2.2.2.2.2.2.2.2.2.2.2⟩
theorem MI_w13 {S : xSt} {v : Int32} (hv : bd v 6) (hS : MI S) : MI (mwr S 13 0 v) := by
  unfold MI tI at *
  rw [mwr_R _ _ _ (show 0 ≠ 13 by decide), mwr_R _ _ _ (show 6 ≠ 13 by decide), mwr_R _ _ _ (show 10 ≠ 13 by decide), mwr_R _ _ _ (show 12 ≠ 13 by decide), mwr_R _ _ _ (show 24 ≠ 13 by decide), mwr_R _ _ _ (show 15 ≠ 13 by decide), mwr_R _ _ _ (show 17 ≠ 13 by decide), mwr_R _ _ _ (show 19 ≠ 13 by decide), mwr_R _ _ _ (show 34 ≠ 13 by decide), mwr_R _ _ _ (show 35 ≠ 13 by decide), mwr_R _ _ _ (show 36 ≠ 13 by decide), mwr_R _ _ _ (show 41 ≠ 13 by decide), mwr_s]
  exact ⟨hS.1, hS.2.1, hS.2.2.1, hS.2.2.2.1, hS.2.2.2.2.1, hv, hS.2.2.2.2.2.2.1, hS.2.2.2.2.2.2.2.1, hS.2.2.2.2.2.2.2.2.1, hS.2.2.2.2.2.2.2.2.2.1, hS.2.2.2.2.2.2.2.2.2.2.1, hS.2.2.2.2.2.2.2.2.2.2.2.1, hS.2.2.2.2.2.2.2.2.2.2.2.2⟩
theorem MI_w15 {S : xSt} {i : Nat} {v : Int32} (hv : bd v 7) (hS : MI S) : MI (mwr S 15 i v) := by
  unfold MI tI at *
  rw [mwr_R _ _ _ (show 0 ≠ 15 by decide), mwr_R _ _ _ (show 6 ≠ 15 by decide), mwr_R _ _ _ (show 10 ≠ 15 by decide), mwr_R _ _ _ (show 12 ≠ 15 by decide), mwr_R _ _ _ (show 24 ≠ 15 by decide), mwr_R _ _ _ (show 13 ≠ 15 by decide), mwr_R _ _ _ (show 17 ≠ 15 by decide), mwr_R _ _ _ (show 19 ≠ 15 by decide), mwr_R _ _ _ (show 34 ≠ 15 by decide), mwr_R _ _ _ (show 35 ≠ 15 by decide), mwr_R _ _ _ (show 36 ≠ 15 by decide), mwr_R _ _ _ (show 41 ≠ 15 by decide)]
  exact ⟨hS.1, hS.2.1, hS.2.2.1, hS.2.2.2.1, hS.2.2.2.2.1, hS.2.2.2.2.2.1, bdw hS.2.2.2.2.2.2.1 hv, hS.2.2.2.2.2.2.2.1, hS.2.2.2.2.2.2.2.2.1, hS.2.2.2.2.2.2.2.2.2.1, hS.2.2.2.2.2.2.2.2.2.2.1, hS.2.2.2.2.2.2.2.2.2.2.2.1, hS.2.2.2.2.2.2.2.2.2.2.2.2⟩
theorem MI_w17 {S : xSt} {v : Int32} (hv : bd v 6) (hS : MI S) : MI (mwr S 17 0 v) := by
  unfold MI tI at *
  rw [mwr_R _ _ _ (show 0 ≠ 17 by decide), mwr_R _ _ _ (show 6 ≠ 17 by decide), mwr_R _ _ _ (show 10 ≠ 17 by decide), mwr_R _ _ _ (show 12 ≠ 17 by decide), mwr_R _ _ _ (show 24 ≠ 17 by decide), mwr_R _ _ _ (show 13 ≠ 17 by decide), mwr_R _ _ _ (show 15 ≠ 17 by decide), mwr_R _ _ _ (show 19 ≠ 17 by decide), mwr_R _ _ _ (show 34 ≠ 17 by decide), mwr_R _ _ _ (show 35 ≠ 17 by decide), mwr_R _ _ _ (show 36 ≠ 17 by decide), mwr_R _ _ _ (show 41 ≠ 17 by decide), mwr_s]
  exact ⟨hS.1, hS.2.1, hS.2.2.1, hS.2.2.2.1, hS.2.2.2.2.1, hS.2.2.2.2.2.1, hS.2.2.2.2.2.2.1, hv, hS.2.2.2.2.2.2.2.2.1, hS.2.2.2.2.2.2.2.2.2.1, hS.2.2.2.2.2.2.2.2.2.2.1, hS.2.2.2.2.2.2.2.2.2.2.2.1, hS.2.2.2.2.2.2.2.2.2.2.2.2⟩
theorem MI_w19 {S : xSt} {i : Nat} {v : Int32} (hv : bd v 7) (hS : MI S) : MI (mwr S 19 i v) := by
  unfold MI tI at *
  rw [mwr_R _ _ _ (show 0 ≠ 19 by decide), mwr_R _ _ _ (show 6 ≠ 19 by decide), mwr_R _ _ _ (show 10 ≠ 19 by decide), mwr_R _ _ _ (show 12 ≠ 19 by decide), mwr_R _ _ _ (show 24 ≠ 19 by decide), mwr_R _ _ _ (show 13 ≠ 19 by decide), mwr_R _ _ _ (show 15 ≠ 19 by decide), mwr_R _ _ _ (show 17 ≠ 19 by decide), mwr_R _ _ _ (show 34 ≠ 19 by decide), mwr_R _ _ _ (show 35 ≠ 19 by decide), mwr_R _ _ _ (show 36 ≠ 19 by decide), mwr_R _ _ _ (show 41 ≠ 19 by decide)]
  exact ⟨hS.1, hS.2.1, hS.2.2.1, hS.2.2.2.1, hS.2.2.2.2.1, hS.2.2.2.2.2.1, hS.2.2.2.2.2.2.1, hS.2.2.2.2.2.2.2.1, bdw hS.2.2.2.2.2.2.2.2.1 hv, hS.2.2.2.2.2.2.2.2.2.1, hS.2.2.2.2.2.2.2.2.2.2.1, hS.2.2.2.2.2.2.2.2.2.2.2.1, hS.2.2.2.2.2.2.2.2.2.2.2.2⟩
theorem MI_w34 {S : xSt} {v : Int32} (hv : bd v 8) (hS : MI S) : MI (mwr S 34 0 v) := by
  unfold MI tI at *
  rw [mwr_R _ _ _ (show 0 ≠ 34 by decide), mwr_R _ _ _ (show 6 ≠ 34 by decide), mwr_R _ _ _ (show 10 ≠ 34 by decide), mwr_R _ _ _ (show 12 ≠ 34 by decide), mwr_R _ _ _ (show 24 ≠ 34 by decide), mwr_R _ _ _ (show 13 ≠ 34 by decide), mwr_R _ _ _ (show 15 ≠ 34 by decide), mwr_R _ _ _ (show 17 ≠ 34 by decide), mwr_R _ _ _ (show 19 ≠ 34 by decide), mwr_R _ _ _ (show 35 ≠ 34 by decide), mwr_R _ _ _ (show 36 ≠ 34 by decide), mwr_R _ _ _ (show 41 ≠ 34 by decide), mwr_s]
  exact ⟨hS.1, hS.2.1, hS.2.2.1, hS.2.2.2.1, hS.2.2.2.2.1, hS.2.2.2.2.2.1, hS.2.2.2.2.2.2.1, hS.2.2.2.2.2.2.2.1, hS.2.2.2.2.2.2.2.2.1, hv, hS.2.2.2.2.2.2.2.2.2.2.1, hS.2.2.2.2.2.2.2.2.2.2.2.1, hS.2.2.2.2.2.2.2.2.2.2.2.2⟩
theorem MI_w35 {S : xSt} {i : Nat} {v : Int32} (hv : bd v 23) (hS : MI S) : MI (mwr S 35 i v) := by
  unfold MI tI at *
  rw [mwr_R _ _ _ (show 0 ≠ 35 by decide), mwr_R _ _ _ (show 6 ≠ 35 by decide), mwr_R _ _ _ (show 10 ≠ 35 by decide), mwr_R _ _ _ (show 12 ≠ 35 by decide), mwr_R _ _ _ (show 24 ≠ 35 by decide), mwr_R _ _ _ (show 13 ≠ 35 by decide), mwr_R _ _ _ (show 15 ≠ 35 by decide), mwr_R _ _ _ (show 17 ≠ 35 by decide), mwr_R _ _ _ (show 19 ≠ 35 by decide), mwr_R _ _ _ (show 34 ≠ 35 by decide), mwr_R _ _ _ (show 36 ≠ 35 by decide), mwr_R _ _ _ (show 41 ≠ 35 by decide)]
  exact ⟨hS.1, hS.2.1, hS.2.2.1, hS.2.2.2.1, hS.2.2.2.2.1, hS.2.2.2.2.2.1, hS.2.2.2.2.2.2.1, hS.2.2.2.2.2.2.2.1, hS.2.2.2.2.2.2.2.2.1, hS.2.2.2.2.2.2.2.2.2.1, bdw hS.2.2.2.2.2.2.2.2.2.2.1 hv, hS.2.2.2.2.2.2.2.2.2.2.2.1, hS.2.2.2.2.2.2.2.2.2.2.2.2⟩
theorem MI_w36 {S : xSt} {i : Nat} {v : Int32} (hv : bd v 7) (hS : MI S) : MI (mwr S 36 i v) := by
  unfold MI tI at *
  rw [mwr_R _ _ _ (show 0 ≠ 36 by decide), mwr_R _ _ _ (show 6 ≠ 36 by decide), mwr_R _ _ _ (show 10 ≠ 36 by decide), mwr_R _ _ _ (show 12 ≠ 36 by decide), mwr_R _ _ _ (show 24 ≠ 36 by decide), mwr_R _ _ _ (show 13 ≠ 36 by decide), mwr_R _ _ _ (show 15 ≠ 36 by decide), mwr_R _ _ _ (show 17 ≠ 36 by decide), mwr_R _ _ _ (show 19 ≠ 36 by decide), mwr_R _ _ _ (show 34 ≠ 36 by decide), mwr_R _ _ _ (show 35 ≠ 36 by decide), mwr_R _ _ _ (show 41 ≠ 36 by decide)]
  exact ⟨hS.1, hS.2.1, hS.2.2.1, hS.2.2.2.1, hS.2.2.2.2.1, hS.2.2.2.2.2.1, hS.2.2.2.2.2.2.1, hS.2.2.2.2.2.2.2.1, hS.2.2.2.2.2.2.2.2.1, hS.2.2.2.2.2.2.2.2.2.1, hS.2.2.2.2.2.2.2.2.2.2.1, bdw hS.2.2.2.2.2.2.2.2.2.2.2.1 hv, hS.2.2.2.2.2.2.2.2.2.2.2.2⟩
theorem MI_w41 {S : xSt} {i : Nat} {v : Int32} (hv : bd v 60) (hS : MI S) : MI (mwr S 41 i v) := by
  unfold MI tI at *
  rw [mwr_R _ _ _ (show 0 ≠ 41 by decide), mwr_R _ _ _ (show 6 ≠ 41 by decide), mwr_R _ _ _ (show 10 ≠ 41 by decide), mwr_R _ _ _ (show 12 ≠ 41 by decide), mwr_R _ _ _ (show 24 ≠ 41 by decide), mwr_R _ _ _ (show 13 ≠ 41 by decide), mwr_R _ _ _ (show 15 ≠ 41 by decide), mwr_R _ _ _ (show 17 ≠ 41 by decide), mwr_R _ _ _ (show 19 ≠ 41 by decide), mwr_R _ _ _ (show 34 ≠ 41 by decide), mwr_R _ _ _ (show 35 ≠ 41 by decide), mwr_R _ _ _ (show 36 ≠ 41 by decide)]
  exact ⟨hS.1, hS.2.1, hS.2.2.1, hS.2.2.2.1, hS.2.2.2.2.1, hS.2.2.2.2.2.1, hS.2.2.2.2.2.2.1, hS.2.2.2.2.2.2.2.1, hS.2.2.2.2.2.2.2.2.1, hS.2.2.2.2.2.2.2.2.2.1, hS.2.2.2.2.2.2.2.2.2.2.1, hS.2.2.2.2.2.2.2.2.2.2.2.1, bdw hS.2.2.2.2.2.2.2.2.2.2.2.2 hv⟩
theorem MI_w00 {S : xSt} {v : Int32} (hv : bd v 23) (hS : MI S) : MI (mwr S 0 0 v) := by
  unfold MI tI at *
  rw [mwr_R _ _ _ (show 6 ≠ 0 by decide), mwr_R _ _ _ (show 10 ≠ 0 by decide), mwr_R _ _ _ (show 12 ≠ 0 by decide), mwr_R _ _ _ (show 24 ≠ 0 by decide), mwr_R _ _ _ (show 13 ≠ 0 by decide), mwr_R _ _ _ (show 15 ≠ 0 by decide), mwr_R _ _ _ (show 17 ≠ 0 by decide), mwr_R _ _ _ (show 19 ≠ 0 by decide), mwr_R _ _ _ (show 34 ≠ 0 by decide), mwr_R _ _ _ (show 35 ≠ 0 by decide), mwr_R _ _ _ (show 36 ≠ 0 by decide), mwr_R _ _ _ (show 41 ≠ 0 by decide)]
  exact ⟨⟨(by rw [mwr_s]; exact hv), (by rw [mwr_q _ _ _ _ (by decide)]; exact hS.1.2)⟩, hS.2⟩
theorem MI_w01 {S : xSt} {v : Int32} (hv : bd v 49) (hS : MI S) : MI (mwr S 0 1 v) := by
  unfold MI tI at *
  rw [mwr_R _ _ _ (show 6 ≠ 0 by decide), mwr_R _ _ _ (show 10 ≠ 0 by decide), mwr_R _ _ _ (show 12 ≠ 0 by decide), mwr_R _ _ _ (show 24 ≠ 0 by decide), mwr_R _ _ _ (show 13 ≠ 0 by decide), mwr_R _ _ _ (show 15 ≠ 0 by decide), mwr_R _ _ _ (show 17 ≠ 0 by decide), mwr_R _ _ _ (show 19 ≠ 0 by decide), mwr_R _ _ _ (show 34 ≠ 0 by decide), mwr_R _ _ _ (show 35 ≠ 0 by decide), mwr_R _ _ _ (show 36 ≠ 0 by decide), mwr_R _ _ _ (show 41 ≠ 0 by decide)]
  exact ⟨⟨(by rw [mwr_q _ _ _ _ (by decide)]; exact hS.1.1), (by rw [mwr_s]; exact hv)⟩, hS.2⟩

theorem MI_type {S : xSt} (hS : MI S) (t b : Int32) : MI (typeF t b S).2 := by
  unfold typeF
  by_cases ht : nI 0 ≤ t ∧ t ≤ nI 1
  · rw [if_pos ht]
    by_cases hb : nI 0 ≤ b ∧ b ≤ nI 255
    · rw [if_pos hb]
      obtain ⟨q, hq, rfl⟩ := bd_I (by decide) ht
      unfold typeT
      rw [show (nI q).toNatClampNeg = q from vN_nI (by omega)]
      by_cases hc : S 0 q = capI q
      · rw [if_pos hc]; exact hS
      · rw [if_neg hc]
        dsimp only
        rcases (show q = 0 ∨ q = 1 by omega) with rfl | rfl
        · obtain ⟨n, hn, h0⟩ := hS.1.1
          rw [h0, nI_add]
          exact MI_w00 ⟨n + 1, Nat.lt_of_le_of_ne hn (fun e => hc (by rw [h0, e]; rfl)), rfl⟩ (MI_wr (by omega) hS)
        · obtain ⟨n, hn, h0⟩ := hS.1.2
          rw [h0, nI_add]
          exact MI_w01 ⟨n + 1, Nat.lt_of_le_of_ne hn (fun e => hc (by rw [h0, e]; rfl)), rfl⟩ (MI_wr (by omega) hS)
    · rw [if_neg hb]; exact hS
  · rw [if_neg ht]; exact hS
theorem MI_w0 {S : xSt} {t : Nat} {v : Int32} (ht : t ≤ 1) (h0 : t = 0 → bd v 23) (h1 : t = 1 → bd v 49) (hS : MI S) : MI (mwr S 0 t v) := by
  rcases (show t = 0 ∨ t = 1 by omega) with rfl | rfl
  · exact MI_w00 (h0 rfl) hS
  · exact MI_w01 (h1 rfl) hS
theorem MI_wipe {S : xSt} (hS : MI S) (t : Int32) : MI (wipeF t S).2 := by
  unfold wipeF
  by_cases ht : nI 0 ≤ t ∧ t ≤ nI 1
  · rw [if_pos ht]
    obtain ⟨q, hq, rfl⟩ := bd_I (by decide) ht
    rw [show (nI q).toNatClampNeg = q from vN_nI (by omega)]
    exact MI_w0 hq (fun _ => ⟨0, by decide, rfl⟩) (fun _ => ⟨0, by decide, rfl⟩) hS
  · rw [if_neg ht]; exact hS
theorem bd_dec {v : Int32} {n : Nat} (h : bd v n) (h0 : ¬ v = 0) : bd (v - nI 1) n := by
  obtain ⟨j, hj, rfl⟩ := h
  cases j with
  | zero => exact absurd rfl h0
  | succ j => rw [pk_sub (by omega : 1 ≤ j + 1)]; exact ⟨j, by omega, rfl⟩
theorem MI_undo {S : xSt} (hS : MI S) (t : Int32) : MI (undoF t S).2 := by
  unfold undoF
  by_cases ht : nI 0 ≤ t ∧ t ≤ nI 1
  · rw [if_pos ht]
    obtain ⟨q, hq, rfl⟩ := bd_I (by decide) ht
    rw [show (nI q).toNatClampNeg = q from vN_nI (by omega)]
    unfold undoT
    by_cases hc : S 0 q = 0
    · rw [if_pos hc]; exact hS
    · rw [if_neg hc]
      exact MI_w0 hq (fun e => bd_dec (by subst e; exact hS.1.1) hc) (fun e => bd_dec (by subst e; exact hS.1.2) hc) hS
  · rw [if_neg ht]; exact hS
theorem MI_fault {S : xSt} (hS : MI S) (t : Int32) : MI (faultF t S).2 := by
  unfold faultF
  by_cases ht : nI 0 ≤ t ∧ t ≤ nI 1
  · rw [if_pos ht]; exact MI_reads hS
  · rw [if_neg ht]; exact hS
theorem MI_keeping {S : xSt} (hS : MI S) (d p : Int32) : MI (keepingP d p S).2 := by
  unfold keepingP
  by_cases h1 : nI 0 ≤ d ∧ d ≤ nI 23
  · rw [if_pos h1]
    by_cases h2 : nI 0 ≤ p ∧ p ≤ nI 9
    · rw [if_pos h2]
      by_cases h3 : S 10 0 = nI 8
      · rw [if_pos h3]; exact hS
      · rw [if_neg h3]
        obtain ⟨n, hn, h0⟩ := hS.2.2.1
        unfold keepingT
        dsimp only
        rw [h0, vN_nI (by omega)]
        exact MI_w10 ⟨n + 1, Nat.lt_of_le_of_ne hn (fun e => h3 (by rw [h0, e])), rfl⟩ (MI_w12 (bd_I (by decide) h2) (MI_wr (by omega) hS))
    · rw [if_neg h2]; exact hS
  · rw [if_neg h1]; exact hS
theorem MI_add3 {c f cap lo hi : Nat} {d k m : Int32} {S : xSt} (hS : MI S) (hc : (nI 0 ≤ d ∧ d ≤ nI 23) → (nI 0 ≤ k ∧ k ≤ nI 7) → ¬ S c 0 = nI cap → MI (add3 c f d k m S).2) : MI (add3P c f cap lo hi d k m S).2 := by
  unfold add3P
  by_cases h1 : nI 0 ≤ d ∧ d ≤ nI 23
  · rw [if_pos h1]
    by_cases h2 : nI 0 ≤ k ∧ k ≤ nI 7
    · rw [if_pos h2]
      by_cases h3 : nI lo ≤ m ∧ m ≤ nI hi
      · rw [if_pos h3]
        by_cases h4 : S c 0 = nI cap
        · rw [if_pos h4]; exact hS
        · rw [if_neg h4]; exact hc h1 h2 h4
      · rw [if_neg h3]; exact hS
    · rw [if_neg h2]; exact hS
  · rw [if_neg h1]; exact hS
theorem MI_lie {S : xSt} (hS : MI S) (d k m : Int32) : MI (add3P 13 14 6 1 9 d k m S).2 := MI_add3 hS fun _ h2 h4 => by
  obtain ⟨n, hn, h0⟩ := hS.2.2.2.2.2.1
  unfold add3
  dsimp only
  rw [h0, vN_nI (by omega)]
  exact MI_w13 ⟨n + 1, Nat.lt_of_le_of_ne hn (fun e => h4 (by rw [h0, e])), rfl⟩ (MI_wr (by omega) (MI_w15 (bd_I (by decide) h2) (MI_wr (by omega) hS)))
theorem MI_letting {S : xSt} (hS : MI S) (d k m : Int32) : MI (add3P 17 18 6 1 9 d k m S).2 := MI_add3 hS fun _ h2 h4 => by
  obtain ⟨n, hn, h0⟩ := hS.2.2.2.2.2.2.2.1
  unfold add3
  dsimp only
  rw [h0, vN_nI (by omega)]
  exact MI_w17 ⟨n + 1, Nat.lt_of_le_of_ne hn (fun e => h4 (by rw [h0, e])), rfl⟩ (MI_wr (by omega) (MI_w19 (bd_I (by decide) h2) (MI_wr (by omega) hS)))
theorem MI_seen {S : xSt} (hS : MI S) (d k m : Int32) : MI (add3P 34 35 8 0 99 d k m S).2 := MI_add3 hS fun h1 h2 h4 => by
  obtain ⟨n, hn, h0⟩ := hS.2.2.2.2.2.2.2.2.2.1
  unfold add3
  dsimp only
  rw [h0, vN_nI (by omega)]
  exact MI_w34 ⟨n + 1, Nat.lt_of_le_of_ne hn (fun e => h4 (by rw [h0, e])), rfl⟩ (MI_wr (by omega) (MI_w36 (bd_I (by decide) h2) (MI_w35 (bd_I (by decide) h1) hS)))
theorem bd_if {v : Int32} {n : Nat} {c : Prop} [Decidable c] (h : bd v n) (h0 : c → ¬ v = 0) : bd (v - (if c then nI 1 else nI 0)) n := by
  by_cases hc : c
  · rw [if_pos hc]; exact bd_dec h (h0 hc)
  · rw [if_neg hc]
    obtain ⟨j, hj, rfl⟩ := h
    rw [pk_sub (by omega : 0 ≤ j)]
    exact ⟨j, hj, rfl⟩
theorem MI_back {S : xSt} (hS : MI S) (w : Int32) : MI (backP w S).2 := by
  unfold backP
  by_cases h1 : nI 0 ≤ w ∧ w ≤ nI 2
  · rw [if_pos h1]
    by_cases h2 : backN w S = 0
    · rw [if_pos h2]; exact hS
    · rw [if_neg h2]
      unfold backS
      dsimp only
      unfold backN at h2
      refine MI_w17 (bd_if hS.2.2.2.2.2.2.2.1 fun e => ?_) (MI_w13 (bd_if hS.2.2.2.2.2.1 fun e => ?_) (MI_w10 (bd_if hS.2.2.1 fun e => ?_) hS))
      · rw [e, if_neg (by decide +kernel), if_neg (by decide +kernel)] at h2; exact h2
      · rw [e, if_neg (by decide +kernel), if_pos rfl] at h2; exact h2
      · rw [e, if_pos rfl] at h2; exact h2
  · rw [if_neg h1]; exact hS
theorem MI_meets {S : xSt} (hS : MI S) (n : Nat) : MI (meetsF n S).2 := by
  unfold meetsF
  exact MI_wr (by omega) hS
theorem MI_rdK (s : Nat) : ∀ f n S, MI S → MI (rdK s f n S).2
  | 0, _, _, h => h
  | f + 1, n, S, h => by
    rw [rdK_s]
    by_cases c : S 41 s ≤ nI (2 * n + 1)
    · rw [if_pos c]; exact h
    · rw [if_neg c]
      by_cases c2 : (keepingP (S 42 (60 * s + 2 * n)) (S 42 (60 * s + 2 * n + 1)) S).1 ≤ 0
      · rw [if_pos c2]; exact MI_keeping h _ _
      · rw [if_neg c2]; exact MI_rdK s f (n + 1) _ (MI_keeping h _ _)
theorem MI_read {S : xSt} (hS : MI S) (s : Int32) : MI (readP s S).2 := by
  unfold readP
  by_cases h1 : nI 0 ≤ s ∧ s ≤ nI 3
  · rw [if_pos h1]
    by_cases h2 : S 39 (vN s) = 0
    · rw [if_pos h2]; exact MI_meets hS _
    · rw [if_neg h2]; exact MI_rdK _ _ _ _ hS
  · rw [if_neg h1]; exact hS
theorem MI_forget {S : xSt} (hS : MI S) : MI (forgetP S).2 := MI_w34 ⟨0, by decide, rfl⟩ hS
theorem MI_it {f : Nat → xSt → xSt} (hf : ∀ i S, MI S → MI (f i S)) (j i : Nat) {S : xSt} (hS : MI S) : MI (itF f j i S) := itF_i hf j i S hS
theorem MI_sheet {S : xSt} (hS : MI S) (s form n : Int32) : MI (sheetP s form n S).2 := by
  unfold sheetP
  by_cases h1 : nI 0 ≤ s ∧ s ≤ nI 3
  · rw [if_pos h1]
    by_cases h2 : nI 0 ≤ form ∧ form ≤ nI 2
    · rw [if_pos h2]
      by_cases h3 : n ≤ nI 60
      · rw [if_pos h3]
        by_cases h4 : 0 ≤ n
        · rw [if_pos h4]
          unfold sheetT
          dsimp only
          exact MI_it (fun i S h => MI_wr (by omega) h) _ _ (MI_w41 (bd_I (by decide) ⟨h4, h3⟩) (MI_wr (by omega) (MI_wr (by omega) hS)))
        · rw [if_neg h4]; exact MI_meets hS _
      · rw [if_neg h3]; exact hS
    · rw [if_neg h2]; exact hS
  · rw [if_neg h1]; exact hS
theorem MI_lose {S : xSt} (hS : MI S) (s : Int32) : MI (loseP s S).2 := by
  unfold loseP
  by_cases h1 : nI 0 ≤ s ∧ s ≤ nI 3
  · rw [if_pos h1]
    by_cases h2 : S 39 (vN s) = 0
    · rw [if_pos h2]; exact MI_meets hS _
    · rw [if_neg h2]; exact MI_wr (by omega) hS
  · rw [if_neg h1]; exact hS
theorem MI_lays {S : xSt} (hS : MI S) (s i : Nat) (v : Int32) : MI (laysF s i v S) := MI_wr (by omega) hS
theorem MI_put {S : xSt} (hS : MI S) (s form i v : Int32) : MI (putP s form i v S).2 := by
  unfold putP
  by_cases h1 : nI 0 ≤ s ∧ s ≤ nI 3
  · rw [if_pos h1]
    by_cases h2 : nI 0 ≤ form ∧ form ≤ nI 2
    · rw [if_pos h2]
      by_cases h3 : nI (lackN S (vN s) form i) ≤ 0
      · rw [if_pos h3]; exact MI_lays hS _ _ _
      · rw [if_neg h3]; exact MI_meets hS _
    · rw [if_neg h2]; exact hS
  · rw [if_neg h1]; exact hS
theorem MI_get {S : xSt} (hS : MI S) (s form i : Int32) : MI (getP s form i S).2 := by
  unfold getP
  by_cases h1 : nI 0 ≤ s ∧ s ≤ nI 3
  · rw [if_pos h1]
    by_cases h2 : nI 0 ≤ form ∧ form ≤ nI 2
    · rw [if_pos h2]
      by_cases h3 : nI (lackN S (vN s) form i) ≤ 0
      · rw [if_pos h3]; exact hS
      · rw [if_neg h3]; exact MI_wr (by omega) hS
    · rw [if_neg h2]; exact hS
  · rw [if_neg h1]; exact hS
theorem MI_copyT {S : xSt} (hS : MI S) (s i t j n : Nat) : MI (copyT s i t j n S) := MI_it (fun _ _ h => MI_wr (by omega) h) _ _ (MI_it (fun _ _ h => MI_wr (by omega) h) _ _ hS)
theorem MI_copyR {S : xSt} (hS : MI S) (s t : Nat) (i j n : Int32) : MI (copyR s t i j n S).2 := by
  unfold copyR
  by_cases h1 : i < 0
  · rw [if_pos h1]; exact MI_meets hS _
  rw [if_neg h1]
  by_cases h2 : j < 0
  · rw [if_pos h2]; exact MI_meets hS _
  rw [if_neg h2]
  by_cases h3 : n < 0
  · rw [if_pos h3]; exact MI_meets hS _
  rw [if_neg h3]
  by_cases h4 : 0 < lg_cmp (i.toInt64 + n.toInt64) (S 41 s).toInt64
  · rw [if_pos h4]; exact MI_meets hS _
  rw [if_neg h4]
  by_cases h5 : lg_cmp (j.toInt64 + n.toInt64) (S 41 t).toInt64 ≤ 0
  · rw [if_pos h5]; exact MI_copyT hS _ _ _ _ _
  · rw [if_neg h5]; exact MI_meets hS _
theorem MI_copy {S : xSt} (hS : MI S) (s i t j n : Int32) : MI (copyP s i t j n S).2 := by
  unfold copyP
  by_cases h1 : nI 0 ≤ s ∧ s ≤ nI 3
  · rw [if_pos h1]
    by_cases h2 : nI 0 ≤ t ∧ t ≤ nI 3
    · rw [if_pos h2]
      by_cases h3 : S 39 (vN s) = 0
      · rw [if_pos h3]; exact MI_meets hS _
      rw [if_neg h3]
      by_cases h4 : S 39 (vN t) = 0
      · rw [if_pos h4]; exact MI_meets hS _
      rw [if_neg h4]
      by_cases h5 : S 40 (vN s) = S 40 (vN t)
      · rw [if_pos h5]; exact MI_copyR hS _ _ _ _ _
      · rw [if_neg h5]; exact MI_meets hS _
    · rw [if_neg h2]; exact hS
  · rw [if_neg h1]; exact hS
theorem MI_write {S : xSt} (hS : MI S) (k s : Int32) : MI (writeP k s S).2 := by
  unfold writeP
  have hR := MI_reads hS
  by_cases h1 : nI 0 ≤ k ∧ k ≤ readsF S 2 0 - nI 1
  · rw [if_pos h1]
    by_cases h2 : nI 0 ≤ s ∧ s ≤ nI 3
    · rw [if_pos h2]
      by_cases h3 : readsF S 39 (vN s) = 0
      · rw [if_pos h3]; exact MI_meets hR _
      · rw [if_neg h3]
        unfold writeT
        dsimp only
        exact MI_it (fun _ _ h => MI_lays h _ _ _) _ _ (MI_RT hR)
    · rw [if_neg h2]; exact hR
  · rw [if_neg h1]; exact hR

