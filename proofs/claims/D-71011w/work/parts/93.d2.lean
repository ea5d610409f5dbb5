/-! digest: the model's numbers move, PromiseTailor's plan stays -/
set_option maxRecDepth 100000
def CR (r : Nat) : Prop := r < 2 ∨ (9 < r ∧ r < 21) ∨ (33 < r ∧ r ≠ 38 ∧ r ≠ 43)
/-- H's core is G's -/
def CO (G H : xSt) : Prop := MI H ∧ ∀ r, CR r → H r = G r
theorem CR_cj {j : Nat} (h : cj j) : CR j := by unfold cj at h; unfold CR; omega
theorem CO_LI {G S : xSt} (hG : MI G) (h : LI (asToldF G) S) : CO G S := ⟨MI_LI (MI_asTold hG) h, fun r hr => (h.2.2 r (by unfold CR at hr; omega)).trans (asToldF_r G (by unfold CR at hr; omega))⟩
theorem CO_rf {G : xSt} (h : MI G) : CO G G := ⟨h, fun _ _ => rfl⟩
theorem CO_tr {A B C : xSt} (h : CO A B) (g : CO B C) : CO A C := ⟨g.1, fun r hr => (g.2 r hr).trans (h.2 r hr)⟩
theorem CO_XR {G H X : xSt} (h : XR G X) (c : CO G H) : XR H X := XR_co h c.2 c.1
theorem CO_rd {G : xSt} (h : MI G) : CO G (readsF G) := ⟨MI_reads h, fun r hr => readsF_fr G (by unfold CR at hr; omega)⟩
theorem CO_RT {G : xSt} (h : MI G) : CO G (RT G) := ⟨MI_RT h, fun r hr => RT_co G r hr⟩
theorem CO_count {G : xSt} (h : MI G) (what : Int32) : CO G (countP what G).2 := by
  have e : ∀ {c : Prop} [Decidable c] {a b : Int32 × xSt}, CO G a.2 → CO G b.2 → CO G (if c then a else b).2 := fun {c} _ {a} {b} ha hb => by
    by_cases z : c
    · rw [if_pos z]; exact ha
    · rw [if_neg z]; exact hb
  have r := CO_rf h
  unfold countP
  exact e (by unfold sumP; exact CO_rd h) (e (by unfold sumP; exact CO_rd h) (e r (e r (e r (e r (e r (e r (e r r))))))))
theorem CO_du {G : xSt} (hS : MI G) {p : Nat} {what : Int32} : CO G (dueF p what (asToldF G)).2 := by
  have hL := LI_0 hS
  apply CO_LI hS
  generalize asToldF G = R at *
  unfold dueF duF
  dsimp only
  apply LI_wr (by omega)
  exact LI_du _ _ _ _ _ _ hL
theorem CO_sw {S : xSt} (hS : MI S) {k day : Nat} (hk : k < 8) : CO S (swearF k day (asToldF S)).2 := by
  obtain ⟨m, hm, h0⟩ := (PV_asTold hS).2.1
  have hL := LI_0 hS
  apply CO_LI hS
  generalize asToldF S = R at *
  unfold swearF
  apply LI_sw
  unfold swS
  rw [h0, vN_nI (by omega)]
  exact LI_wr (by omega) (LI_wr (by omega) (LI_w6 ⟨k, by omega, rfl⟩ (LI_w21 ⟨m + 1, by omega, rfl⟩ hL)))
theorem CO_kb {S : xSt} (hS : MI S) {d : Nat} {what : Int32} : CO S (keepF d what (asToldF S)).2 := by
  obtain ⟨m, hm, h0⟩ := (PV_asTold hS).2.1
  obtain ⟨q, hq, hq0⟩ : bd (asToldF S 10 0) 8 := (MI_asTold hS).2.2.1
  have hL := LI_0 hS
  apply CO_LI hS
  generalize asToldF S = R at *
  unfold keepF kbF
  dsimp only
  apply LI_kb
  · rw [h0, vN_nI (by omega)]
    omega
  · rw [hq0, vN_nI (by omega)]
    exact LI_wr (by omega) (LI_w22 ⟨q + 1, by omega, rfl⟩ hL)
theorem CO_hu {S : xSt} (hS : MI S) : CO S (hushF (asToldF S)).2 := by
  have hL := LI_0 hS
  apply CO_LI hS
  generalize asToldF S = R at *
  unfold hushF
  by_cases c : hsQ (nI 0) R
  · rw [if_pos c]; dsimp only; exact LI_hs _ hL
  · rw [if_neg c]; exact LI_hb0 _ _ _ _ (LI_hs _ hL)
theorem CO_nv {S : xSt} (hS : MI S) : CO S (neverF (asToldF S)).2 := by
  have hL := LI_0 hS
  apply CO_LI hS
  generalize asToldF S = R at *
  unfold neverF
  exact LI_nv _ _ _ _ hL
theorem CO_sz {S : xSt} (hS : MI S) {k : Nat} : CO S (sizesF k (asToldF S)).2 := by
  have hL := LI_0 hS
  apply CO_LI hS
  generalize asToldF S = R at *
  unfold sizesF szR
  dsimp only
  apply LI_wr (by omega)
  exact LI_szK _ _ _ _ _ hL
theorem CO_so {S : xSt} (hS : MI S) {k : Nat} : CO S (sortsF k (asToldF S)).2 := by
  have hL := LI_0 hS
  apply CO_LI hS
  generalize asToldF S = R at *
  unfold sortsF soR
  dsimp only
  apply LI_wr (by omega)
  exact LI_soK _ _ _ _ _ hL
theorem CO_ak {S : xSt} (hS : MI S) {k : Nat} : CO S (askF k (asToldF S)).2 := by
  unfold askF
  dsimp only
  exact CO_sz hS
theorem CO_wo {S : xSt} (hS : MI S) {c k day : Nat} {what : Int32} : CO S (wordF c k day what (asToldF S)).2 := by
  have hL := LI_0 hS
  apply CO_LI hS
  generalize asToldF S = R at *
  unfold wordF woF
  dsimp only
  exact LI_wo _ _ _ _ _ _ _ _ hL
theorem CO_yr {S : xSt} (hS : MI S) {seed : Int32} {n : Nat} {what : Int32} (hn : n ≤ 8) : CO S (yearF seed n what (asToldF S)).2 := by
  obtain ⟨m, hm, h0⟩ := (PV_asTold hS).2.1
  have hL := LI_0 hS
  apply CO_LI hS
  generalize asToldF S = R at *
  unfold yearF yearR yrR
  dsimp only
  apply LI_run
  by_cases e : R 5 0 = 0
  · rw [if_pos e]
    exact LI_w22 ⟨0, by omega, rfl⟩ hL
  · rw [if_neg e]
    have hm0 : 0 < m := Nat.pos_of_ne_zero fun z => e (by rw [h0, z]; rfl)
    apply LI_yr
    · rw [h0, vN_nI (by omega)]; exact hm
    · rw [h0, vN_nI (by omega)]; exact hm0
    · exact LI_w22 ⟨n, by omega, rfl⟩ hL
/-- what is told in S is what a telling anew gives -/
def SE (S : xSt) : Prop := AP (asToldF S) S
theorem SE_of {G S : xSt} (hc : CO G S) (h : AP (asToldF G) S) : SE S := AP_tr (AP_sy (told_AP (fun j hj => hc.2 j (CR_cj hj)))) h
theorem AP_told (G : xSt) : AP (asToldF G) (readsF G) := ⟨fun j hj => (readsF_fr G (by unfold cj at hj; omega)).trans (asToldF_r G (by unfold cj at hj; omega)).symm, by rw [asToldF_p G (by decide)], by rw [asToldF_p G (by decide)], fun k _ => by rw [asToldF_p G (by decide), asToldF_p G (by decide)]; exact ⟨rfl, rfl⟩, fun k _ => by rw [asToldF_p G (by decide), asToldF_p G (by decide), asToldF_p G (by decide), asToldF_p G (by decide)]; exact ⟨rfl, rfl, rfl, rfl⟩⟩
theorem SE_rd {G : xSt} (h : MI G) : SE (readsF G) := SE_of (CO_rd h) (AP_told G)
theorem AP_duK {R : xSt} (q : Nat) : ∀ j d b m S, AP R (mwr S 9 q (R 9 q)) → AP R (mwr (duK q j d b m S).2.2 9 q (R 9 q))
  | 0, _, _, _, _, h => h
  | j + 1, d, b, m, S, h => by
    rw [duK_s]
    exact AP_duK q j _ _ _ _ (mwr_run (by decide) h)
theorem AP_du (p : Nat) (what : Int32) (R : xSt) : AP R (dueF p what R).2 := by
  unfold dueF duF
  dsimp only
  exact AP_duK p _ _ _ _ _ (by rw [mwr_self]; exact AP_rf R)
theorem AP_woK {R : xSt} (c k day q : Nat) : ∀ j s a S, AP R S → AP R (woK c k day q j s a S).2
  | 0, _, _, _, h => h
  | j + 1, s, a, S, h => by
    rw [woK_s]
    by_cases c0 : wtF c q s = 0
    · rw [if_pos c0]; exact AP_woK c k day q j _ _ _ h
    · rw [if_neg c0]; exact AP_woK c k day q j _ _ _ (AP_tr (AP_tr h (AP_wr (j := 25) (i := 0) (v := nI s) (by omega))) (AP_fr (runsF_fr _)))
theorem AP_wo (c k day : Nat) (what : Int32) (R : xSt) : AP R (wordF c k day what R).2 := by
  unfold wordF woF
  dsimp only
  exact AP_woK _ _ _ _ _ _ _ _ (AP_rf R)
theorem SE_RT {G : xSt} (h : MI G) : SE (RT G) := SE_of (CO_RT h) (AP_fr (RT_fr G))
theorem SE_du {G : xSt} (h : MI G) (p : Nat) (what : Int32) : SE (dueF p what (asToldF G)).2 := SE_of (CO_du h) (AP_du p what _)
theorem SE_wo {G : xSt} (h : MI G) (c k day : Nat) (what : Int32) : SE (wordF c k day what (asToldF G)).2 := SE_of (CO_wo h) (AP_wo c k day what _)
theorem told_cr (G : xSt) : ∀ r, 12 < r → r < 21 → asToldF G r = G r := fun r a b => asToldF_r G (by omega)
theorem SA_told {A B : xSt} (hA : MI A) (c : CO A B) : SAm (vN (asToldF B 2 0)) (vN (asToldF B 5 0)) (vN (B 10 0)) (asToldF A) (asToldF B) := by
  have ha : AP (asToldF A) (asToldF B) := told_AP (fun j hj => c.2 j (CR_cj hj))
  have hP := PV_asTold c.1
  obtain ⟨P, hP8, eP⟩ := hP.1
  obtain ⟨N, hN10, eN⟩ := hP.2.1
  obtain ⟨Q, hQ8, eQ⟩ := c.1.2.2.1
  have e10 : B 10 = A 10 := c.2 10 (.inr (.inl (by omega)))
  have e11 : B 11 = A 11 := c.2 11 (.inr (.inl (by omega)))
  have e12 : B 12 = A 12 := c.2 12 (.inr (.inl (by omega)))
  have a2 := ha.2.1
  have a5 := ha.2.2.1
  have a3 := ha.2.2.2.1
  have a6 := ha.2.2.2.2
  rw [← a2] at a3
  rw [← a5] at a6
  rw [eP, vN_nI (by omega)] at a3
  rw [eN, vN_nI (by omega)] at a6
  rw [eP, eN, eQ, vN_nI (by omega), vN_nI (by omega), vN_nI (by omega)]
  refine ⟨⟨by omega, by omega, by omega⟩, ⟨a2.symm.trans eP, eP⟩, ⟨a5.symm.trans eN, eN⟩, ⟨(told_21 A).trans (a5.symm.trans eN), (told_21 B).trans eN⟩, ⟨by rw [asToldF_22, ← e10]; exact eQ, by rw [asToldF_22]; exact eQ⟩, ⟨(told_25 A).1.trans (told_25 B).1.symm, (told_25 A).2.trans (told_25 B).2.symm⟩, fun r x y => ?_, fun k hk => ⟨(a3 k hk).1.symm, (a3 k hk).2.symm⟩, fun p hp => ⟨(a6 p hp).1.symm, (a6 p hp).2.1.symm, (a6 p hp).2.2.1.symm, (a6 p hp).2.2.2.symm⟩, fun p hp => hP.2.2.2.2.1 p (by omega), fun i hi => ?_, fun i hi => ⟨hP.2.2.2.2.2.2.2.1 i hi, hP.2.2.2.2.2.2.2.2.2 i hi⟩, hP.2.2.2.2.2.2.1, hP.2.2.2.2.2.2.2.2.1⟩
  · rw [told_cr A r x y, told_cr B r x y]
    exact (c.2 r (.inr (.inl (by omega)))).symm
  · have hiA : i < vN (A 10 0) := by rw [← e10, eQ, vN_nI (by omega)]; exact hi
    have hiB : i < vN (B 10 0) := by rw [eQ, vN_nI (by omega)]; exact hi
    rw [(told_k A hiA).1, (told_k A hiA).2, (told_k B hiB).1, (told_k B hiB).2, e11, e12]
    exact ⟨rfl, rfl⟩
/-- THE PLAN STAYS: X's answers for the model's numbers A are answers for B -/
theorem RQ_mv {A B X : xSt} (h : RQ (RT A) X) (g : XR B X) (hA : MI A) (c : CO A B) : RQ (RT B) X := by
  have hs := SM_run (SA_told hA c)
  unfold RT at *
  have hx : XT (runsF (asToldF B)) X := XT_fr (runsF_fr _) (frx_rf X) g.1.1
  have f2 : runsF (asToldF B) 2 = asToldF B 2 := runsF_fr _ 2 (by omega)
  have f5 : runsF (asToldF B) 5 = asToldF B 5 := runsF_fr _ 5 (by omega)
  have hP := PV_asTold c.1
  obtain ⟨P, hP8, eP⟩ := hP.1
  obtain ⟨N, hN10, eN⟩ := hP.2.1
  obtain ⟨⟨hR1, hR2, hR3⟩, h55⟩ := h
  rw [← f2, ← f5] at hs
  have e2 : runsF (asToldF A) 2 0 = runsF (asToldF B) 2 0 := hs.1.2.1.1.trans hs.1.2.1.2.symm
  have e5 : runsF (asToldF A) 5 0 = runsF (asToldF B) 5 0 := hs.1.2.2.1.1.trans hs.1.2.2.1.2.symm
  unfold DA at hR3
  rw [e2, e5] at hR3
  generalize runsF (asToldF A) = U at *
  generalize runsF (asToldF B) = V at *
  refine ⟨⟨hx, hR2, fun k hk => ?_, fun p hp => ?_, fun p hp z => (hs.2.2.1 p hp).2 z, fun e he => ⟨fun k hk => ?_, fun p hp => ?_⟩⟩, h55⟩
  · have y := hR3.1 k hk
    rw [(hs.2.1 k hk).1, (hs.2.1 k hk).2] at y
    exact y
  · rw [hR3.2.1 p hp, (hs.2.2.1 p hp).1]
  · have he' : e < 24 := by rw [h55, vN_nI (by decide)] at he; exact he
    have y := (hR3.2.2.2 e he).1 k hk
    rw [((hs.2.2.2 e he').1 k hk).1, ((hs.2.2.2 e he').1 k hk).2] at y
    exact y
  · have he' : e < 24 := by rw [h55, vN_nI (by decide)] at he; exact he
    rw [(hR3.2.2.2 e he).2 p hp, (hs.2.2.2 e he').2 p hp]

