/-! the model's questions -/
set_option maxRecDepth 100000
/-- what holds of the model's numbers at all times -/
def MI (S : xSt) : Prop := tI S ∧ (∀ p, p < 12 → bd (S 6 p) 7) ∧ bd (S 10 0) 8 ∧ (∀ i, i < 9 → bd (S 12 i) 9) ∧ (∀ i, i < 9 → bd (S 24 i) 9) ∧ bd (S 13 0) 6 ∧ (∀ i, i < 6 → bd (S 15 i) 7) ∧ bd (S 17 0) 6 ∧ (∀ i, i < 6 → bd (S 19 i) 7) ∧ bd (S 34 0) 8 ∧ (∀ i, i < 8 → bd (S 35 i) 23) ∧ (∀ i, i < 8 → bd (S 36 i) 7) ∧ ∀ i, i < 4 → bd (S 41 i) 60
theorem MI_fr {S S' : xSt} (h : fr S S') (hS : MI S) : MI S' := by
  unfold MI tI at *
  rw [h 0 (by omega), h 6 (by omega), h 10 (by omega), h 12 (by omega), h 24 (by omega), h 13 (by omega), h 15 (by omega), h 17 (by omega), h 19 (by omega), h 34 (by omega), h 35 (by omega), h 36 (by omega), h 41 (by omega)]
  exact hS
theorem bd_sub {w : Int32} {a b : Nat} (ha : a ≤ b) (hb : b < 2 ^ 31) (h1 : nI a ≤ w) (h2 : w ≤ nI b) : bd (w - nI a) (b - a) := by
  have h0 : (0 : Int32) ≤ w := Int32.le_trans (nI_pos' (show a < 2 ^ 31 by omega)) h1
  obtain ⟨j, hj, rfl⟩ := nI_of2 (M := nI b) (nI_toInt hb) (Int32.not_lt.mpr h0) h2
  have h3 : a ≤ j := (nI_leI (by omega) (by omega)).mp h1
  exact ⟨j - a, by omega, pk_sub h3⟩
/-- a number below another that is small -/
theorem bd_in {v x : Int32} {n : Nat} (hn : n < 2 ^ 30) (hx : bd x n) (h : nI 0 ≤ v ∧ v ≤ x - nI 1) : ∃ k, v = nI k ∧ nI k < x ∧ k < n := by
  obtain ⟨j, hj, rfl⟩ := hx
  cases j with
  | zero =>
    have := Int32.le_trans h.1 h.2
    exact absurd this (by decide +kernel)
  | succ j =>
    rw [pk_sub (by omega : 1 ≤ j + 1)] at h
    obtain ⟨k, hk, rfl⟩ := bd_I (n := j) (by omega) h
    exact ⟨k, rfl, nI_lt (by omega) (by omega), by omega⟩
def wB (S : xSt) : Prop := ∀ p, p < 12 → bd (S 6 p) 7
theorem mwr4_6 (S : xSt) (n p : Nat) (w g m d : Int32) : mwr (mwr (mwr (mwr S 6 n w) 7 n g) 8 n m) 9 n d 6 p = mwr S 6 n w 6 p := by
  rw [mwr_r _ _ _ _ (by decide), mwr_r _ _ _ _ (by decide), mwr_r _ _ _ _ (by decide)]
theorem rdQ_w {n a : Nat} {S : xSt} (h : wB S) : wB (rdQ n a S).2 := by
  unfold rdQ rdQG
  split
  · exact h
  split
  · rename_i hw
    split
    · split
      · split
        · intro p hp
          dsimp only
          rw [mwr4_6]
          by_cases e : p = n
          · rw [e, mwr_s]
            exact bd_sub (by decide) (by decide) hw.1 hw.2
          · rw [mwr_q _ _ _ _ e]
            exact h p hp
        · exact h
      · exact h
    · exact h
  · exact h
theorem partF_i {t sz : Nat} {rd : Nat → Nat → xSt → Int32 × xSt} {fin : Nat → xSt → xSt} {I : xSt → Prop} {cap : Nat} (h1 : ∀ n a S, I S → I (rd n a S).2) (h2 : ∀ n S, n ≤ cap → I S → I (fin n S)) (hn : ∀ n a S, nI sz ≤ (rd n a S).1 → n ≠ cap) : ∀ f n a S, n + f ≤ cap + 1 → I S → I (partF t sz rd fin f n a S).2
  | 0, _, _, _, _, h => h
  | f + 1, n, a, S, hf, h => by
    have hk : I (partK t sz rd fin (partF t sz rd fin f) n a S).2 := by
      unfold partK
      split
      · rename_i hs
        have := hn n a S hs
        split
        · exact h2 _ _ (by omega) (h1 _ _ _ h)
        · split
          · exact partF_i h1 h2 hn f _ _ _ (by omega) (h1 _ _ _ h)
          · exact h1 _ _ _ h
      · exact h1 _ _ _ h
    unfold partF
    split
    · exact hk
    · split
      · exact h
      · exact hk
theorem readsF_b {S : xSt} (h : wB S) : wB (readsF S) ∧ bd (readsF S 2 0) 8 ∧ bd (readsF S 5 0) 10 := by
  have a0 : wB (partsF0 S).2 := by unfold wB; rw [partsF0_fr S (by decide)]; exact h
  have a1 : bd ((partsF0 S).2 2 0) 8 := partF_i (cap := 8) (I := fun S => bd (S 2 0) 8) (fun n a S hI => by rw [rdP_fr n a S (by decide)]; exact hI)
    (fun n S hn _ => by unfold finF0; rw [mwr_same, mwr_s]; exact ⟨n, hn, rfl⟩) (fun n a S => rdP_n) 9 0 0 _ (by decide) (by unfold finF0; rw [mwr_same, mwr_s]; exact ⟨0, by decide, rfl⟩)
  have fw : ∀ n S, wB S → wB (finF1 n S) := fun n S hw => by unfold wB; rw [finF1_fr n S (by decide)]; exact hw
  have a2 : wB (readsF S) := partF_i (cap := 10) (I := wB) (fun n a S hI => rdQ_w hI) (fun n S _ hI => fw n S hI) (fun n a S => rdQ_n) 11 0 0 _ (by decide) (fw 0 _ a0)
  have a3 : bd (readsF S 5 0) 10 := partF_i (cap := 10) (I := fun S => bd (S 5 0) 10) (fun n a S hI => by rw [rdQ_fr n a S (by decide)]; exact hI)
    (fun n S hn _ => by unfold finF1; rw [mwr_same, mwr_s]; exact ⟨n, hn, rfl⟩) (fun n a S => rdQ_n) 11 0 0 _ (by decide) (by unfold finF1; rw [mwr_same, mwr_s]; exact ⟨0, by decide, rfl⟩)
  refine ⟨a2, ?_, a3⟩
  show bd ((partsF1 (partsF0 S).2).2 2 0) 8
  rw [partsF1_fr _ (by decide)]
  exact a1
theorem MI_reads {S : xSt} (h : MI S) : MI (readsF S) := by
  have hb := (readsF_b h.2.1).1
  unfold MI tI at *
  rw [readsF_fr S (r := 0) (by omega), readsF_fr S (r := 10) (by omega), readsF_fr S (r := 12) (by omega), readsF_fr S (r := 24) (by omega), readsF_fr S (r := 13) (by omega), readsF_fr S (r := 15) (by omega), readsF_fr S (r := 17) (by omega), readsF_fr S (r := 19) (by omega), readsF_fr S (r := 34) (by omega), readsF_fr S (r := 35) (by omega), readsF_fr S (r := 36) (by omega), readsF_fr S (r := 41) (by omega)]
  exact ⟨h.1, hb, h.2.2⟩
def atF (i : Nat) (S : xSt) : xSt := mwr (mwr S 23 i (S 11 i)) 24 i (S 12 i)
def at0F (S : xSt) : xSt := mwr (mwr (readsF S) 21 0 (readsF S 5 0)) 22 0 (readsF S 10 0)
def at1F (S : xSt) : xSt := itF atF (vN (S 10 0)) 0 S
def asToldF (S : xSt) : xSt := mwr (mwr (at1F (at0F S)) 25 0 (nI 0)) 26 0 (nI 0)
theorem atF_r (i : Nat) (S : xSt) {r : Nat} (h : r ≠ 23 ∧ r ≠ 24) : atF i S r = S r := by
  funext q
  exact (mwr_r _ _ _ _ h.2).trans (mwr_r _ _ _ _ h.1)
theorem itF_r {f : Nat → xSt → xSt} {r : Nat} (hf : ∀ i S, f i S r = S r) : ∀ j i S, itF f j i S r = S r
  | 0, _, _ => rfl
  | j + 1, i, S => (itF_r hf j (i + 1) _).trans (hf i S)
theorem itF_i {f : Nat → xSt → xSt} {I : xSt → Prop} (hf : ∀ i S, I S → I (f i S)) : ∀ j i S, I S → I (itF f j i S)
  | 0, _, _, h => h
  | j + 1, i, S, h => itF_i hf j (i + 1) _ (hf i S h)
theorem mwr_R (S : xSt) {j r : Nat} (i : Nat) (v : Int32) (h : r ≠ j) : mwr S j i v r = S r := by funext q; exact mwr_r _ _ _ _ h
theorem asToldF_r (S : xSt) {r : Nat} (h : r < 2 ∨ (9 < r ∧ r < 21) ∨ 26 < r) : asToldF S r = S r := by
  unfold asToldF at1F
  rw [mwr_R _ _ _ (by omega), mwr_R _ _ _ (by omega), itF_r (fun i S => atF_r i S (by omega))]
  unfold at0F
  rw [mwr_R _ _ _ (by omega), mwr_R _ _ _ (by omega), readsF_fr S (by omega)]
theorem asToldF_p (S : xSt) {r : Nat} (h : 2 ≤ r ∧ r ≤ 9) : asToldF S r = readsF S r := by
  unfold asToldF at1F
  rw [mwr_R _ _ _ (by omega), mwr_R _ _ _ (by omega), itF_r (fun i S => atF_r i S (by omega))]
  unfold at0F
  rw [mwr_R _ _ _ (by omega), mwr_R _ _ _ (by omega)]
theorem asToldF_21 (S : xSt) : asToldF S 21 0 = readsF S 5 0 := by
  unfold asToldF at1F
  rw [mwr_R _ _ _ (by omega), mwr_R _ _ _ (by omega), itF_r (fun i S => atF_r i S (by omega))]
  unfold at0F
  rw [mwr_R _ _ _ (by omega), mwr_s]
theorem asToldF_22 (S : xSt) : asToldF S 22 0 = S 10 0 := by
  unfold asToldF at1F
  rw [mwr_R _ _ _ (by omega), mwr_R _ _ _ (by omega), itF_r (fun i S => atF_r i S (by omega))]
  unfold at0F
  rw [mwr_s, readsF_fr S (by omega)]
theorem asToldF_24 {S : xSt} (h : MI S) : ∀ i, i < 9 → bd (asToldF S 24 i) 9 := by
  have h1 : (fun S : xSt => (∀ i, i < 9 → bd (S 24 i) 9) ∧ ∀ i, i < 9 → bd (S 12 i) 9) (at1F (at0F S)) := by
    refine itF_i (I := fun S : xSt => (∀ i, i < 9 → bd (S 24 i) 9) ∧ ∀ i, i < 9 → bd (S 12 i) 9) (fun i S hI => ⟨fun q hq => ?_, fun q hq => ?_⟩) _ _ _ ⟨fun q hq => ?_, fun q hq => ?_⟩
    · unfold atF
      by_cases e : q = i
      · subst e
        rw [mwr_s]
        exact hI.2 q hq
      · rw [mwr_q _ _ _ _ e, mwr_R _ _ _ (by omega)]
        exact hI.1 q hq
    · rw [atF_r i S (by omega)]
      exact hI.2 q hq
    · unfold at0F
      rw [mwr_R _ _ _ (by omega), mwr_R _ _ _ (by omega), readsF_fr S (by omega)]
      exact h.2.2.2.2.1 q hq
    · unfold at0F
      rw [mwr_R _ _ _ (by omega), mwr_R _ _ _ (by omega), readsF_fr S (by omega)]
      exact h.2.2.2.1 q hq
  intro i hi
  unfold asToldF
  rw [mwr_R _ _ _ (by omega), mwr_R _ _ _ (by omega)]
  exact h1.1 i hi
theorem MI_asTold {S : xSt} (h : MI S) : MI (asToldF S) := by
  have hb := (readsF_b h.2.1).1
  have h24 := asToldF_24 h
  unfold MI tI
  rw [asToldF_r S (r := 0) (by omega), asToldF_p S (r := 6) (by omega), asToldF_r S (r := 10) (by omega), asToldF_r S (r := 12) (by omega), asToldF_r S (r := 13) (by omega), asToldF_r S (r := 15) (by omega), asToldF_r S (r := 17) (by omega), asToldF_r S (r := 19) (by omega), asToldF_r S (r := 34) (by omega), asToldF_r S (r := 35) (by omega), asToldF_r S (r := 36) (by omega), asToldF_r S (r := 41) (by omega)]
  exact ⟨h.1, hb, h.2.2.1, h.2.2.2.1, h24, h.2.2.2.2.2⟩
theorem PV_asTold {S : xSt} (h : MI S) : PV (asToldF S) := by
  have hb := readsF_b h.2.1
  have hm := MI_asTold h
  unfold PV
  rw [asToldF_p S (r := 2) (by omega), asToldF_p S (r := 5) (by omega), asToldF_21, asToldF_22]
  exact ⟨hb.2.1, hb.2.2, bd_le hb.2.2 (by decide), bd_le h.2.2.1 (by decide), hm.2.1, hm.2.2.2.2.1, hm.2.2.2.2.2.1, hm.2.2.2.2.2.2.1, hm.2.2.2.2.2.2.2.1, hm.2.2.2.2.2.2.2.2.1⟩

set_option maxHeartbeats 4000000 in
theorem m_asTold (l : Launch) (S : xSt) (hS : MI S) : Cm l yX5_asTold cX5_asTold 2 none 5 [] S (fun r S' => r = none ∧ S' = asToldF S) := by
  refine Cm_start (ls := [some (.ref 1000), none]) (by decide) rfl (Nat.le_of_ble_eq_true rfl) ?_
  intro Q hQ
  obtain ⟨nn, hnn, hn0⟩ := hS.2.2.1
  have hn2 : at0F S 10 0 = nI nn := by unfold at0F; rw [mwr_R _ _ _ (by omega), mwr_R _ _ _ (by omega), readsF_fr S (by omega)]; exact hn0
  have L22 : ∀ (j : Nat) (i : Nat) (S1 : xSt) (hj : i + j = nn)  (hn1 : S1 10 0 = nI nn) (hR : itF atF j i S1 = at1F (at0F S)), V l (yX5_asTold.cls, cX5_asTold, 2, none, [], yX5_asTold.name) (rmD 5 0 0, xF0, Q, xX0) 22 [some (.ref 1000), some (.int (nI i))] [] (mW S1) 0 0 := by
    intro j
    induction j with
    | zero =>
      intro i S1 hj  hn1 hR
      refine V_iload_n dX5_asTold_22 rfl ?_
      refine V_aload_n dX5_asTold_23 rfl ?_
      refine Vm_getI 10 dX5_asTold_24 q1174 (by decide) ?_
      refine V_topi hn1 ?_
      refine V_icmp_ge (tgt := 60) dX5_asTold_27 (by decide) (fun _ => ?_) (fun c27 => absurd (nI_le (by omega) (by omega)) c27)
      refine V_aload_n dX5_asTold_60 rfl ?_
      refine V_iconst dX5_asTold_61 li_0 ?_
      refine Vm_putI 25 dX5_asTold_62 q1189 (by decide) ?_
      refine V_aload_n dX5_asTold_65 rfl ?_
      refine V_iconst dX5_asTold_66 li_0 ?_
      refine Vm_putI 26 dX5_asTold_67 q1190 (by decide) ?_
      exact V_vreturn dX5_asTold_70 rfl (hQ _ _ ⟨rfl, by unfold asToldF; rw [← hR]; rfl⟩)
    | succ j ih =>
      intro i S1 hj  hn1 hR
      refine V_iload_n dX5_asTold_22 rfl ?_
      refine V_aload_n dX5_asTold_23 rfl ?_
      refine Vm_getI 10 dX5_asTold_24 q1174 (by decide) ?_
      refine V_topi hn1 ?_
      refine V_icmp_ge (tgt := 60) dX5_asTold_27 (by decide) (fun c27 => absurd c27 (nI_ge (by omega) (by omega))) (fun _ => ?_)
      refine V_aload_n dX5_asTold_30 rfl ?_
      refine Vm_getA 23 dX5_asTold_31 q1187 (by decide) ?_
      refine V_iload_n dX5_asTold_34 rfl ?_
      refine V_aload_n dX5_asTold_35 rfl ?_
      refine Vm_getA 11 dX5_asTold_36 q1175 (by decide) ?_
      refine V_iload_n dX5_asTold_39 rfl ?_
      refine Vm_iald dX5_asTold_40 (by first | rfl | assumption) (by show _ < 9; omega) (by decide) ?_
      refine Vm_iast dX5_asTold_41 (by first | rfl | assumption) (by show _ < 9; omega) (by decide) ?_
      refine V_aload_n dX5_asTold_42 rfl ?_
      refine Vm_getA 24 dX5_asTold_43 q1188 (by decide) ?_
      refine V_iload_n dX5_asTold_46 rfl ?_
      refine V_aload_n dX5_asTold_47 rfl ?_
      refine Vm_getA 12 dX5_asTold_48 q1176 (by decide) ?_
      refine V_iload_n dX5_asTold_51 rfl ?_
      refine Vm_iald dX5_asTold_52 (by first | rfl | assumption) (by show _ < 9; omega) (by decide) ?_
      refine Vm_iast dX5_asTold_53 (by first | rfl | assumption) (by show _ < 9; omega) (by decide) ?_
      refine V_iinc dX5_asTold_54 rfl (iinc_1 _) rfl (Nat.le_of_ble_eq_true rfl) ?_
      refine V_goto (tgt := 22) dX5_asTold_57 (by decide) ?_
      exact ih (i + 1) (atF i S1) (by omega) (by rw [atF_r i S1 (by omega)]; exact hn1) hR
  refine V_aload_n dX5_asTold_0 rfl ?_
  refine Vm_callVF (m_reads l _ hS.1) dX5_asTold_1 (lw_V q1351 q1353 qs49 q103 q1354) hv_X5_reads (by decide) rfl (Nat.le_of_ble_eq_true rfl) ?_
  refine V_aload_n dX5_asTold_4 rfl ?_
  refine V_aload_n dX5_asTold_5 rfl ?_
  refine Vm_getI 5 dX5_asTold_6 q1169 (by decide) ?_
  refine Vm_putI 21 dX5_asTold_9 q1185 (by decide) ?_
  refine V_aload_n dX5_asTold_12 rfl ?_
  refine V_aload_n dX5_asTold_13 rfl ?_
  refine Vm_getI 10 dX5_asTold_14 q1174 (by decide) ?_
  refine Vm_putI 22 dX5_asTold_17 q1186 (by decide) ?_
  refine V_iconst dX5_asTold_20 li_0 ?_
  refine V_istore_n dX5_asTold_21 rfl (Nat.le_of_ble_eq_true rfl) (Nat.le_of_ble_eq_true rfl) ?_
  exact L22 nn 0 (at0F S) (by omega) hn2 (by unfold at1F; rw [hn2, vN_nI (by omega)])
def RT (S : xSt) : xSt := runsF (asToldF S)
theorem RT_fr (S : xSt) : fr (asToldF S) (RT S) := runsF_fr _
theorem MI_RT {S : xSt} (h : MI S) : MI (RT S) := MI_fr (RT_fr S) (MI_asTold h)
theorem PV_RT {S : xSt} (h : MI S) : PV (RT S) := PV_fr (RT_fr S) (PV_asTold h)
abbrev fitP (S : xSt) (d k : Nat) : Prop := nI 0 ≤ S 30 (8 * d + k) - S 4 k ∧ S 30 (8 * d + k) - S 4 k ≤ nI 1
def itA (f : Nat → Int32 → Int32) : Nat → Nat → Int32 → Int32
  | 0, _, a => a
  | j + 1, i, a => itA f j (i + 1) (f i a)
def fmF (S : xSt) (d k : Nat) (a : Int32) : Int32 := a + (if fitP S d k then nI 1 else nI 0)
def fitManyF (S : xSt) (d : Nat) : Int32 := itA (fmF S d) (vN (S 2 0)) 0 (nI 0)
def neF (S : xSt) (d k : Nat) (a : Int32) : Int32 := a ||| (if fitP S d k then nI 1 <<< (nI k &&& 31) else nI 0)
def neatF (S : xSt) (d : Nat) : Int32 := itA (neF S d) (vN (S 2 0)) 0 (nI 0)
def nkF (S : xSt) (d k : Nat) (a : Int32) : Int32 := a ||| (if S 30 (8 * d + k) = 0 then nI 1 <<< (nI k &&& 31) else nI 0)
def nakedF (S : xSt) (d : Nat) : Int32 := itA (nkF S d) (vN (S 2 0)) 0 (nI 0)
def lgF (S : xSt) (d k : Nat) (a : Int32) : Int32 := if a = -1 then nI k else if S 30 (8 * d + k) ≤ S 30 (8 * d + vN a) then a else nI k
def longF (S : xSt) (d : Nat) : Int32 := itA (lgF S d) (vN (S 2 0)) 0 (-1)
def taF (S : xSt) (k : Nat) (a : Int32) : Int32 := a + S 28 k
def tearsF (S : xSt) : Int32 := itA (taF S) (vN (S 2 0)) 0 (nI 0)
def beF (S : xSt) (d : Nat) (a : Int32) : Int32 := if fitManyF S d ≤ fitManyF S (vN a) then a else nI d
def bestF (S : xSt) : Int32 := if S 2 0 = 0 then -1 else itA (beF S) 23 1 (nI 0)
def coatV (S : xSt) (d k : Nat) (what : Int32) : Int32 := if what = 0 then S 30 (8 * d + k) else if what = nI 1 then (if fitP S d k then nI 1 else nI 0) else S 31 (8 * d + k)

set_option maxHeartbeats 4000000 in
theorem m_runsTold (l : Launch) (S : xSt) (hS : MI S) : Cm l yX5_runsTold cX5_runsTold 1 none 6 [] S (fun r S' => r = none ∧ S' = RT S) := by
  refine Cm_start (ls := [some (.ref 1000)]) (by decide) rfl (Nat.le_of_ble_eq_true rfl) ?_
  intro Q hQ
  refine V_aload_n dX5_runsTold_0 rfl ?_
  refine Vm_callVF (m_asTold l _ hS) dX5_runsTold_1 (lw_V q1417 q1419 qs56 q103 q1420) hv_X5_asTold (by decide) rfl (Nat.le_of_ble_eq_true rfl) ?_
  refine V_aload_n dX5_runsTold_4 rfl ?_
  refine Vm_callVF (m_runs l _ (PV_asTold hS)) dX5_runsTold_5 (lw_V q1421 q1423 qs57 q103 q1424) hv_X5_runs (by decide) rfl (Nat.le_of_ble_eq_true rfl) ?_
  exact V_vreturn dX5_runsTold_8 rfl (hQ _ _ ⟨rfl, rfl⟩)
set_option maxHeartbeats 4000000 in
theorem m_fitsOn (l : Launch) (S : xSt) (d k : Nat) (hd : d < 24) (hk : k < 8) : Cm l yX5_fitsOn cX5_fitsOn 3 (some .boolean) 1 [.int (nI d), .int (nI k)] S (fun r S' => ∃ x, r = some (.int x) ∧ x = bI (fitP S d k) ∧ S' = S) := by
  refine Cm_start (ls := [some (.ref 1000), some (.int (nI d)), some (.int (nI k))]) (by decide) rfl (Nat.le_of_ble_eq_true rfl) ?_
  intro Q hQ
  refine V_aload_n dX5_fitsOn_0 rfl ?_
  refine Vm_getA 30 dX5_fitsOn_1 q1194 (by decide) ?_
  refine V_bipush dX5_fitsOn_4 lb_8 ?_
  refine V_iload_n dX5_fitsOn_6 rfl ?_
  refine V_imulN dX5_fitsOn_7 ?_
  refine V_iload_n dX5_fitsOn_8 rfl ?_
  refine V_iaddN dX5_fitsOn_9 ?_
  refine Vm_iald dX5_fitsOn_10 (by first | rfl | assumption) (by show _ < 192; omega) (by decide) ?_
  refine V_aload_n dX5_fitsOn_11 rfl ?_
  refine Vm_getA 4 dX5_fitsOn_12 q1168 (by decide) ?_
  refine V_iload_n dX5_fitsOn_15 rfl ?_
  refine Vm_iald dX5_fitsOn_16 (by first | rfl | assumption) (by show _ < 9; omega) (by decide) ?_
  refine V_isub dX5_fitsOn_17 ?_
  refine V_iconst dX5_fitsOn_18 li_0 ?_
  refine V_iconst dX5_fitsOn_19 li_1 ?_
  refine Vs_callIF (m_in l _ _ _) dX5_fitsOn_20 (lw_S q1308 q1309 q103 q1310) hs_X5_in (by decide) rfl (Nat.le_of_ble_eq_true rfl) ?_
  exact V_zreturn dX5_fitsOn_23 rfl (by first | exact bI_nr | exact nr_0 | exact nr_1) (hQ _ _ ⟨_, rfl, ⟨rfl, rfl⟩⟩)
set_option maxHeartbeats 4000000 in
theorem m_fitMany (l : Launch) (S : xSt) (d : Nat) (hd : d < 24) (hp : bd (S 2 0) 8) : Cm l yX5_fitMany cX5_fitMany 4 (some .int) 2 [.int (nI d)] S (fun r S' => ∃ x, r = some (.int x) ∧ x = fitManyF S d ∧ S' = S) := by
  refine Cm_start (ls := [some (.ref 1000), some (.int (nI d)), none, none]) (by decide) rfl (Nat.le_of_ble_eq_true rfl) ?_
  intro Q hQ
  obtain ⟨nn, hnn, hn0⟩ := hp
  have L : ∀ (j : Nat) (i : Nat) (a : Int32) (hj : i + j = nn) (hR : itA (fmF S d) j i a = fitManyF S d), V l (yX5_fitMany.cls, cX5_fitMany, 4, (some .int), [], yX5_fitMany.name) (rmD 2 0 0, xF0, Q, xX0) 4 [some (.ref 1000), some (.int (nI d)), some (.int a), some (.int (nI i))] [] (mW S) 0 0 := by
    intro j
    induction j with
    | zero =>
      intro i a hj hR
      refine V_iload_n dX5_fitMany_4 rfl ?_
      refine V_aload_n dX5_fitMany_5 rfl ?_
      refine Vm_getI 2 dX5_fitMany_6 q1166 (by decide) ?_
      refine V_topi hn0 ?_
      refine V_icmp_ge (tgt := 35) dX5_fitMany_9 (by decide) (fun _ => ?_) (fun c9 => absurd (nI_le (by omega) (by omega)) c9)
      refine V_iload_n dX5_fitMany_35 rfl ?_
      exact V_ireturn dX5_fitMany_36 rfl (hQ _ _ ⟨_, rfl, ⟨hR, rfl⟩⟩)
    | succ j ih =>
      intro i a hj hR
      refine V_iload_n dX5_fitMany_4 rfl ?_
      refine V_aload_n dX5_fitMany_5 rfl ?_
      refine Vm_getI 2 dX5_fitMany_6 q1166 (by decide) ?_
      refine V_topi hn0 ?_
      refine V_icmp_ge (tgt := 35) dX5_fitMany_9 (by decide) (fun c9 => absurd c9 (nI_ge (by omega) (by omega))) (fun _ => ?_)
      refine V_iload_n dX5_fitMany_12 rfl ?_
      refine V_aload_n dX5_fitMany_13 rfl ?_
      refine V_iload_n dX5_fitMany_14 rfl ?_
      refine V_iload_n dX5_fitMany_15 rfl ?_
      refine Vm_callIF (m_fitsOn l _ _ _ (by omega) (by omega)) dX5_fitMany_16 (lw_V q1456 q1458 qs65 q103 q1459) hv_X5_fitsOn (by decide) rfl (Nat.le_of_ble_eq_true rfl) ?_
      refine V_if_eqB (tgt := 26) dX5_fitMany_19 (by decide) (fun c19 => ?_) (fun c19 => ?_)
      · refine V_iconst dX5_fitMany_26 li_0 ?_
        refine V_iadd dX5_fitMany_27 ?_
        refine V_istore_n dX5_fitMany_28 rfl (Nat.le_of_ble_eq_true rfl) (Nat.le_of_ble_eq_true rfl) ?_
        refine V_iinc dX5_fitMany_29 rfl (iinc_1 _) rfl (Nat.le_of_ble_eq_true rfl) ?_
        refine V_goto (tgt := 4) dX5_fitMany_32 (by decide) ?_
        exact ih (i + 1) _ (by omega)  ((congrArg (itA (fmF S d) j (i + 1)) (show _ = (fmF S d) i _ by unfold fmF; rw [if_neg c19])).trans hR)
      · refine V_iconst dX5_fitMany_22 li_1 ?_
        refine V_goto (tgt := 27) dX5_fitMany_23 (by decide) ?_
        refine V_iadd dX5_fitMany_27 ?_
        refine V_istore_n dX5_fitMany_28 rfl (Nat.le_of_ble_eq_true rfl) (Nat.le_of_ble_eq_true rfl) ?_
        refine V_iinc dX5_fitMany_29 rfl (iinc_1 _) rfl (Nat.le_of_ble_eq_true rfl) ?_
        refine V_goto (tgt := 4) dX5_fitMany_32 (by decide) ?_
        exact ih (i + 1) _ (by omega)  ((congrArg (itA (fmF S d) j (i + 1)) (show _ = (fmF S d) i _ by unfold fmF; rw [if_pos c19])).trans hR)
  refine V_iconst dX5_fitMany_0 li_0 ?_
  refine V_istore_n dX5_fitMany_1 rfl (Nat.le_of_ble_eq_true rfl) (Nat.le_of_ble_eq_true rfl) ?_
  refine V_iconst dX5_fitMany_2 li_0 ?_
  refine V_istore_n dX5_fitMany_3 rfl (Nat.le_of_ble_eq_true rfl) (Nat.le_of_ble_eq_true rfl) ?_
  exact L nn 0 (nI 0) (by omega)  (by unfold fitManyF; rw [hn0, vN_nI (by omega)])
set_option maxHeartbeats 4000000 in
theorem m_nakedNow (l : Launch) (S : xSt) (d : Nat) (hd : d < 24) (hp : bd (S 2 0) 8) : Cm l yX5_nakedNow cX5_nakedNow 4 (some .int) 2 [.int (nI d)] S (fun r S' => ∃ x, r = some (.int x) ∧ x = nakedF S d ∧ S' = S) := by
  refine Cm_start (ls := [some (.ref 1000), some (.int (nI d)), none, none]) (by decide) rfl (Nat.le_of_ble_eq_true rfl) ?_
  intro Q hQ
  obtain ⟨nn, hnn, hn0⟩ := hp
  have L : ∀ (j : Nat) (i : Nat) (a : Int32) (hj : i + j = nn) (hR : itA (nkF S d) j i a = nakedF S d), V l (yX5_nakedNow.cls, cX5_nakedNow, 4, (some .int), [], yX5_nakedNow.name) (rmD 2 0 0, xF0, Q, xX0) 4 [some (.ref 1000), some (.int (nI d)), some (.int a), some (.int (nI i))] [] (mW S) 0 0 := by
    intro j
    induction j with
    | zero =>
      intro i a hj hR
      refine V_iload_n dX5_nakedNow_4 rfl ?_
      refine V_aload_n dX5_nakedNow_5 rfl ?_
      refine Vm_getI 2 dX5_nakedNow_6 q1166 (by decide) ?_
      refine V_topi hn0 ?_
      refine V_icmp_ge (tgt := 42) dX5_nakedNow_9 (by decide) (fun _ => ?_) (fun c9 => absurd (nI_le (by omega) (by omega)) c9)
      refine V_iload_n dX5_nakedNow_42 rfl ?_
      exact V_ireturn dX5_nakedNow_43 rfl (hQ _ _ ⟨_, rfl, ⟨hR, rfl⟩⟩)
    | succ j ih =>
      intro i a hj hR
      refine V_iload_n dX5_nakedNow_4 rfl ?_
      refine V_aload_n dX5_nakedNow_5 rfl ?_
      refine Vm_getI 2 dX5_nakedNow_6 q1166 (by decide) ?_
      refine V_topi hn0 ?_
      refine V_icmp_ge (tgt := 42) dX5_nakedNow_9 (by decide) (fun c9 => absurd c9 (nI_ge (by omega) (by omega))) (fun _ => ?_)
      refine V_iload_n dX5_nakedNow_12 rfl ?_
      refine V_aload_n dX5_nakedNow_13 rfl ?_
      refine Vm_getA 30 dX5_nakedNow_14 q1194 (by decide) ?_
      refine V_bipush dX5_nakedNow_17 lb_8 ?_
      refine V_iload_n dX5_nakedNow_19 rfl ?_
      refine V_imulN dX5_nakedNow_20 ?_
      refine V_iload_n dX5_nakedNow_21 rfl ?_
      refine V_iaddN dX5_nakedNow_22 ?_
      refine Vm_iald dX5_nakedNow_23 (by first | rfl | assumption) (by show _ < 192; omega) (by decide) ?_
      refine V_if_ne (tgt := 33) dX5_nakedNow_24 (by decide) (fun c24 => ?_) (fun c24 => ?_)
      · refine V_iconst dX5_nakedNow_33 li_0 ?_
        refine V_ior dX5_nakedNow_34 ?_
        refine V_istore_n dX5_nakedNow_35 rfl (Nat.le_of_ble_eq_true rfl) (Nat.le_of_ble_eq_true rfl) ?_
        refine V_iinc dX5_nakedNow_36 rfl (iinc_1 _) rfl (Nat.le_of_ble_eq_true rfl) ?_
        refine V_goto (tgt := 4) dX5_nakedNow_39 (by decide) ?_
        exact ih (i + 1) _ (by omega)  ((congrArg (itA (nkF S d) j (i + 1)) (show _ = (nkF S d) i _ by unfold nkF; rw [if_neg c24])).trans hR)
      · refine V_iconst dX5_nakedNow_27 li_1 ?_
        refine V_iload_n dX5_nakedNow_28 rfl ?_
        refine V_ishl dX5_nakedNow_29 ?_
        refine V_goto (tgt := 34) dX5_nakedNow_30 (by decide) ?_
        refine V_ior dX5_nakedNow_34 ?_
        refine V_istore_n dX5_nakedNow_35 rfl (Nat.le_of_ble_eq_true rfl) (Nat.le_of_ble_eq_true rfl) ?_
        refine V_iinc dX5_nakedNow_36 rfl (iinc_1 _) rfl (Nat.le_of_ble_eq_true rfl) ?_
        refine V_goto (tgt := 4) dX5_nakedNow_39 (by decide) ?_
        exact ih (i + 1) _ (by omega)  ((congrArg (itA (nkF S d) j (i + 1)) (show _ = (nkF S d) i _ by unfold nkF; rw [if_pos c24])).trans hR)
  refine V_iconst dX5_nakedNow_0 li_0 ?_
  refine V_istore_n dX5_nakedNow_1 rfl (Nat.le_of_ble_eq_true rfl) (Nat.le_of_ble_eq_true rfl) ?_
  refine V_iconst dX5_nakedNow_2 li_0 ?_
  refine V_istore_n dX5_nakedNow_3 rfl (Nat.le_of_ble_eq_true rfl) (Nat.le_of_ble_eq_true rfl) ?_
  exact L nn 0 (nI 0) (by omega)  (by unfold nakedF; rw [hn0, vN_nI (by omega)])
set_option maxHeartbeats 4000000 in
theorem m_tearsAll (l : Launch) (S : xSt) (hp : bd (S 2 0) 8) : Cm l yX5_tearsAll cX5_tearsAll 3 (some .int) 2 [] S (fun r S' => ∃ x, r = some (.int x) ∧ x = tearsF S ∧ S' = S) := by
  refine Cm_start (ls := [some (.ref 1000), none, none]) (by decide) rfl (Nat.le_of_ble_eq_true rfl) ?_
  intro Q hQ
  obtain ⟨nn, hnn, hn0⟩ := hp
  have L : ∀ (j : Nat) (i : Nat) (a : Int32) (hj : i + j = nn) (hR : itA (taF S) j i a = tearsF S), V l (yX5_tearsAll.cls, cX5_tearsAll, 3, (some .int), [], yX5_tearsAll.name) (rmD 2 0 0, xF0, Q, xX0) 4 [some (.ref 1000), some (.int a), some (.int (nI i))] [] (mW S) 0 0 := by
    intro j
    induction j with
    | zero =>
      intro i a hj hR
      refine V_iload_n dX5_tearsAll_4 rfl ?_
      refine V_aload_n dX5_tearsAll_5 rfl ?_
      refine Vm_getI 2 dX5_tearsAll_6 q1166 (by decide) ?_
      refine V_topi hn0 ?_
      refine V_icmp_ge (tgt := 27) dX5_tearsAll_9 (by decide) (fun _ => ?_) (fun c9 => absurd (nI_le (by omega) (by omega)) c9)
      refine V_iload_n dX5_tearsAll_27 rfl ?_
      exact V_ireturn dX5_tearsAll_28 rfl (hQ _ _ ⟨_, rfl, ⟨hR, rfl⟩⟩)
    | succ j ih =>
      intro i a hj hR
      refine V_iload_n dX5_tearsAll_4 rfl ?_
      refine V_aload_n dX5_tearsAll_5 rfl ?_
      refine Vm_getI 2 dX5_tearsAll_6 q1166 (by decide) ?_
      refine V_topi hn0 ?_
      refine V_icmp_ge (tgt := 27) dX5_tearsAll_9 (by decide) (fun c9 => absurd c9 (nI_ge (by omega) (by omega))) (fun _ => ?_)
      refine V_iload_n dX5_tearsAll_12 rfl ?_
      refine V_aload_n dX5_tearsAll_13 rfl ?_
      refine Vm_getA 28 dX5_tearsAll_14 q1192 (by decide) ?_
      refine V_iload_n dX5_tearsAll_17 rfl ?_
      refine Vm_iald dX5_tearsAll_18 (by first | rfl | assumption) (by show _ < 8; omega) (by decide) ?_
      refine V_iadd dX5_tearsAll_19 ?_
      refine V_istore_n dX5_tearsAll_20 rfl (Nat.le_of_ble_eq_true rfl) (Nat.le_of_ble_eq_true rfl) ?_
      refine V_iinc dX5_tearsAll_21 rfl (iinc_1 _) rfl (Nat.le_of_ble_eq_true rfl) ?_
      refine V_goto (tgt := 4) dX5_tearsAll_24 (by decide) ?_
      exact ih (i + 1) _ (by omega)  ((congrArg (itA (taF S) j (i + 1)) (show _ = (taF S) i _ by unfold taF; rfl)).trans hR)
  refine V_iconst dX5_tearsAll_0 li_0 ?_
  refine V_istore_n dX5_tearsAll_1 rfl (Nat.le_of_ble_eq_true rfl) (Nat.le_of_ble_eq_true rfl) ?_
  refine V_iconst dX5_tearsAll_2 li_0 ?_
  refine V_istore_n dX5_tearsAll_3 rfl (Nat.le_of_ble_eq_true rfl) (Nat.le_of_ble_eq_true rfl) ?_
  exact L nn 0 (nI 0) (by omega)  (by unfold tearsF; rw [hn0, vN_nI (by omega)])
theorem RT_p {S : xSt} (h : MI S) : bd (RT S 2 0) 8 := (PV_RT h).1
set_option maxHeartbeats 4000000 in
theorem m_neatOf (l : Launch) (S : xSt) (d : Nat) (hd : d < 24) (hS : MI S) : Cm l yX5_neatOf cX5_neatOf 4 (some .int) 7 [.int (nI d)] S (fun r S' => ∃ x, r = some (.int x) ∧ x = neatF (RT S) d ∧ S' = RT S) := by
  refine Cm_start (ls := [some (.ref 1000), some (.int (nI d)), none, none]) (by decide) rfl (Nat.le_of_ble_eq_true rfl) ?_
  intro Q hQ
  obtain ⟨nn, hnn, hn0⟩ := RT_p hS
  have hT := m_runsTold l S hS
  generalize RT S = R at hQ hn0 hT
  have L : ∀ (j : Nat) (i : Nat) (a : Int32) (hj : i + j = nn) (hR : itA (neF R d) j i a = neatF R d), V l (yX5_neatOf.cls, cX5_neatOf, 4, (some .int), [], yX5_neatOf.name) (rmD 7 0 0, xF0, Q, xX0) 8 [some (.ref 1000), some (.int (nI d)), some (.int a), some (.int (nI i))] [] (mW R) 0 0 := by
    intro j
    induction j with
    | zero =>
      intro i a hj hR
      refine V_iload_n dX5_neatOf_8 rfl ?_
      refine V_aload_n dX5_neatOf_9 rfl ?_
      refine Vm_getI 2 dX5_neatOf_10 q1166 (by decide) ?_
      refine V_topi hn0 ?_
      refine V_icmp_ge (tgt := 41) dX5_neatOf_13 (by decide) (fun _ => ?_) (fun c13 => absurd (nI_le (by omega) (by omega)) c13)
      refine V_iload_n dX5_neatOf_41 rfl ?_
      exact V_ireturn dX5_neatOf_42 rfl (hQ _ _ ⟨_, rfl, ⟨hR, rfl⟩⟩)
    | succ j ih =>
      intro i a hj hR
      refine V_iload_n dX5_neatOf_8 rfl ?_
      refine V_aload_n dX5_neatOf_9 rfl ?_
      refine Vm_getI 2 dX5_neatOf_10 q1166 (by decide) ?_
      refine V_topi hn0 ?_
      refine V_icmp_ge (tgt := 41) dX5_neatOf_13 (by decide) (fun c13 => absurd c13 (nI_ge (by omega) (by omega))) (fun _ => ?_)
      refine V_iload_n dX5_neatOf_16 rfl ?_
      refine V_aload_n dX5_neatOf_17 rfl ?_
      refine V_iload_n dX5_neatOf_18 rfl ?_
      refine V_iload_n dX5_neatOf_19 rfl ?_
      refine Vm_callIF (m_fitsOn l _ _ _ (by omega) (by omega)) dX5_neatOf_20 (lw_V q1456 q1458 qs65 q103 q1459) hv_X5_fitsOn (by decide) rfl (Nat.le_of_ble_eq_true rfl) ?_
      refine V_if_eqB (tgt := 32) dX5_neatOf_23 (by decide) (fun c23 => ?_) (fun c23 => ?_)
      · refine V_iconst dX5_neatOf_32 li_0 ?_
        refine V_ior dX5_neatOf_33 ?_
        refine V_istore_n dX5_neatOf_34 rfl (Nat.le_of_ble_eq_true rfl) (Nat.le_of_ble_eq_true rfl) ?_
        refine V_iinc dX5_neatOf_35 rfl (iinc_1 _) rfl (Nat.le_of_ble_eq_true rfl) ?_
        refine V_goto (tgt := 8) dX5_neatOf_38 (by decide) ?_
        exact ih (i + 1) _ (by omega)  ((congrArg (itA (neF R d) j (i + 1)) (show _ = (neF R d) i _ by unfold neF; rw [if_neg c23])).trans hR)
      · refine V_iconst dX5_neatOf_26 li_1 ?_
        refine V_iload_n dX5_neatOf_27 rfl ?_
        refine V_ishl dX5_neatOf_28 ?_
        refine V_goto (tgt := 33) dX5_neatOf_29 (by decide) ?_
        refine V_ior dX5_neatOf_33 ?_
        refine V_istore_n dX5_neatOf_34 rfl (Nat.le_of_ble_eq_true rfl) (Nat.le_of_ble_eq_true rfl) ?_
        refine V_iinc dX5_neatOf_35 rfl (iinc_1 _) rfl (Nat.le_of_ble_eq_true rfl) ?_
        refine V_goto (tgt := 8) dX5_neatOf_38 (by decide) ?_
        exact ih (i + 1) _ (by omega)  ((congrArg (itA (neF R d) j (i + 1)) (show _ = (neF R d) i _ by unfold neF; rw [if_pos c23])).trans hR)
  refine V_aload_n dX5_neatOf_0 rfl ?_
  refine Vm_callVF hT dX5_neatOf_1 (lw_V q1413 q1415 qs55 q103 q1416) hv_X5_runsTold (by decide) rfl (Nat.le_of_ble_eq_true rfl) ?_
  refine V_iconst dX5_neatOf_4 li_0 ?_
  refine V_istore_n dX5_neatOf_5 rfl (Nat.le_of_ble_eq_true rfl) (Nat.le_of_ble_eq_true rfl) ?_
  refine V_iconst dX5_neatOf_6 li_0 ?_
  refine V_istore_n dX5_neatOf_7 rfl (Nat.le_of_ble_eq_true rfl) (Nat.le_of_ble_eq_true rfl) ?_
  exact L nn 0 (nI 0) (by omega) (by unfold neatF; rw [hn0, vN_nI (by omega)])
set_option maxHeartbeats 4000000 in
theorem m_nakedOf (l : Launch) (S : xSt) (d : Nat) (hd : d < 24) (hS : MI S) : Cm l yX5_nakedOf cX5_nakedOf 2 (some .int) 7 [.int (nI d)] S (fun r S' => ∃ x, r = some (.int x) ∧ x = nakedF (RT S) d ∧ S' = RT S) := by
  refine Cm_start (ls := [some (.ref 1000), some (.int (nI d))]) (by decide) rfl (Nat.le_of_ble_eq_true rfl) ?_
  intro Q hQ
  have hp := RT_p hS
  have hT := m_runsTold l S hS
  generalize RT S = R at hQ hp hT
  refine V_aload_n dX5_nakedOf_0 rfl ?_
  refine Vm_callVF hT dX5_nakedOf_1 (lw_V q1413 q1415 qs55 q103 q1416) hv_X5_runsTold (by decide) rfl (Nat.le_of_ble_eq_true rfl) ?_
  refine V_aload_n dX5_nakedOf_4 rfl ?_
  refine V_iload_n dX5_nakedOf_5 rfl ?_
  refine Vm_callIF (m_nakedNow l _ _ hd hp) dX5_nakedOf_6 (lw_V q1484 q1486 qs69 q103 q1487) hv_X5_nakedNow (by decide) rfl (Nat.le_of_ble_eq_true rfl) ?_
  exact V_ireturn dX5_nakedOf_9 rfl (hQ _ _ ⟨_, rfl, ⟨rfl, rfl⟩⟩)
set_option maxHeartbeats 4000000 in
theorem m_longestOf (l : Launch) (S : xSt) (d : Nat) (hd : d < 24) (hS : MI S) : Cm l yX5_longestOf cX5_longestOf 4 (some .int) 7 [.int (nI d)] S (fun r S' => ∃ x, r = some (.int x) ∧ x = longF (RT S) d ∧ S' = RT S) := by
  refine Cm_start (ls := [some (.ref 1000), some (.int (nI d)), none, none]) (by decide) rfl (Nat.le_of_ble_eq_true rfl) ?_
  intro Q hQ
  obtain ⟨nn, hnn, hn0⟩ := RT_p hS
  have hT := m_runsTold l S hS
  generalize RT S = R at hQ hn0 hT
  have L : ∀ (j : Nat) (i : Nat) (a : Int32) (hj : i + j = nn) (ha : a = -1 ∨ bd a 7) (hR : itA (lgF R d) j i a = longF R d), V l (yX5_longestOf.cls, cX5_longestOf, 4, (some .int), [], yX5_longestOf.name) (rmD 7 0 0, xF0, Q, xX0) 8 [some (.ref 1000), some (.int (nI d)), some (.int a), some (.int (nI i))] [] (mW R) 0 0 := by
    intro j
    induction j with
    | zero =>
      intro i a hj ha hR
      refine V_iload_n dX5_longestOf_8 rfl ?_
      refine V_aload_n dX5_longestOf_9 rfl ?_
      refine Vm_getI 2 dX5_longestOf_10 q1166 (by decide) ?_
      refine V_topi hn0 ?_
      refine V_icmp_ge (tgt := 58) dX5_longestOf_13 (by decide) (fun _ => ?_) (fun c13 => absurd (nI_le (by omega) (by omega)) c13)
      refine V_iload_n dX5_longestOf_58 rfl ?_
      exact V_ireturn dX5_longestOf_59 rfl (hQ _ _ ⟨_, rfl, ⟨hR, rfl⟩⟩)
    | succ j ih =>
      intro i a hj ha hR
      refine V_iload_n dX5_longestOf_8 rfl ?_
      refine V_aload_n dX5_longestOf_9 rfl ?_
      refine Vm_getI 2 dX5_longestOf_10 q1166 (by decide) ?_
      refine V_topi hn0 ?_
      refine V_icmp_ge (tgt := 58) dX5_longestOf_13 (by decide) (fun c13 => absurd c13 (nI_ge (by omega) (by omega))) (fun _ => ?_)
      refine V_iload_n dX5_longestOf_16 rfl ?_
      refine V_iconst dX5_longestOf_17 li_m1 ?_
      refine V_icmp_eq (tgt := 46) dX5_longestOf_18 (by decide) (fun c18 => ?_) (fun c18 => ?_)
      · refine V_iload_n dX5_longestOf_46 rfl ?_
        refine V_goto (tgt := 51) dX5_longestOf_47 (by decide) ?_
        refine V_istore_n dX5_longestOf_51 rfl (Nat.le_of_ble_eq_true rfl) (Nat.le_of_ble_eq_true rfl) ?_
        refine V_iinc dX5_longestOf_52 rfl (iinc_1 _) rfl (Nat.le_of_ble_eq_true rfl) ?_
        refine V_goto (tgt := 8) dX5_longestOf_55 (by decide) ?_
        exact ih (i + 1) _ (by omega) (by first | exact ha | exact Or.inr ⟨i, by omega, rfl⟩) ((congrArg (itA (lgF R d) j (i + 1)) (show _ = (lgF R d) i _ by unfold lgF; rw [if_pos c18])).trans hR)
      · obtain ⟨q, hq, rfl⟩ := ha.resolve_left c18
        have hv : vN (nI q) = q := vN_nI (by omega)
        refine V_aload_n dX5_longestOf_21 rfl ?_
        refine Vm_getA 30 dX5_longestOf_22 q1194 (by decide) ?_
        refine V_bipush dX5_longestOf_25 lb_8 ?_
        refine V_iload_n dX5_longestOf_27 rfl ?_
        refine V_imulN dX5_longestOf_28 ?_
        refine V_iload_n dX5_longestOf_29 rfl ?_
        refine V_iaddN dX5_longestOf_30 ?_
        refine Vm_iald dX5_longestOf_31 (by first | rfl | assumption) (by show _ < 192; omega) (by decide) ?_
        refine V_aload_n dX5_longestOf_32 rfl ?_
        refine Vm_getA 30 dX5_longestOf_33 q1194 (by decide) ?_
        refine V_bipush dX5_longestOf_36 lb_8 ?_
        refine V_iload_n dX5_longestOf_38 rfl ?_
        refine V_imulN dX5_longestOf_39 ?_
        refine V_iload_n dX5_longestOf_40 rfl ?_
        refine V_iaddN dX5_longestOf_41 ?_
        refine Vm_iald dX5_longestOf_42 rfl (by show _ < 192; omega) (by decide) ?_
        refine V_icmp_le (tgt := 50) dX5_longestOf_43 (by decide) (fun c43 => ?_) (fun c43 => ?_)
        · rw [← hv] at c43
          refine V_iload_n dX5_longestOf_50 rfl ?_
          refine V_istore_n dX5_longestOf_51 rfl (Nat.le_of_ble_eq_true rfl) (Nat.le_of_ble_eq_true rfl) ?_
          refine V_iinc dX5_longestOf_52 rfl (iinc_1 _) rfl (Nat.le_of_ble_eq_true rfl) ?_
          refine V_goto (tgt := 8) dX5_longestOf_55 (by decide) ?_
          exact ih (i + 1) _ (by omega) (by first | exact ha | exact Or.inr ⟨i, by omega, rfl⟩) ((congrArg (itA (lgF R d) j (i + 1)) (show _ = (lgF R d) i _ by unfold lgF; rw [if_neg c18, if_pos c43])).trans hR)
        · rw [← hv] at c43
          refine V_iload_n dX5_longestOf_46 rfl ?_
          refine V_goto (tgt := 51) dX5_longestOf_47 (by decide) ?_
          refine V_istore_n dX5_longestOf_51 rfl (Nat.le_of_ble_eq_true rfl) (Nat.le_of_ble_eq_true rfl) ?_
          refine V_iinc dX5_longestOf_52 rfl (iinc_1 _) rfl (Nat.le_of_ble_eq_true rfl) ?_
          refine V_goto (tgt := 8) dX5_longestOf_55 (by decide) ?_
          exact ih (i + 1) _ (by omega) (by first | exact ha | exact Or.inr ⟨i, by omega, rfl⟩) ((congrArg (itA (lgF R d) j (i + 1)) (show _ = (lgF R d) i _ by unfold lgF; rw [if_neg c18, if_neg c43])).trans hR)
  refine V_aload_n dX5_longestOf_0 rfl ?_
  refine Vm_callVF hT dX5_longestOf_1 (lw_V q1413 q1415 qs55 q103 q1416) hv_X5_runsTold (by decide) rfl (Nat.le_of_ble_eq_true rfl) ?_
  refine V_iconst dX5_longestOf_4 li_m1 ?_
  refine V_istore_n dX5_longestOf_5 rfl (Nat.le_of_ble_eq_true rfl) (Nat.le_of_ble_eq_true rfl) ?_
  refine V_iconst dX5_longestOf_6 li_0 ?_
  refine V_istore_n dX5_longestOf_7 rfl (Nat.le_of_ble_eq_true rfl) (Nat.le_of_ble_eq_true rfl) ?_
  exact L nn 0 (-1) (by omega) (Or.inl rfl) (by unfold longF; rw [hn0, vN_nI (by omega)])
set_option maxHeartbeats 4000000 in
theorem m_splitsOf (l : Launch) (S : xSt) (hS : MI S) : Cm l yX5_splitsOf cX5_splitsOf 1 (some .int) 7 [] S (fun r S' => ∃ x, r = some (.int x) ∧ x = tearsF (RT S) ∧ S' = RT S) := by
  refine Cm_start (ls := [some (.ref 1000)]) (by decide) rfl (Nat.le_of_ble_eq_true rfl) ?_
  intro Q hQ
  have hp := RT_p hS
  have hT := m_runsTold l S hS
  generalize RT S = R at hQ hp hT
  refine V_aload_n dX5_splitsOf_0 rfl ?_
  refine Vm_callVF hT dX5_splitsOf_1 (lw_V q1413 q1415 qs55 q103 q1416) hv_X5_runsTold (by decide) rfl (Nat.le_of_ble_eq_true rfl) ?_
  refine V_aload_n dX5_splitsOf_4 rfl ?_
  refine Vm_callIF (m_tearsAll l _ hp) dX5_splitsOf_5 (lw_V q1504 q1506 qs72 q103 q1507) hv_X5_tearsAll (by decide) rfl (Nat.le_of_ble_eq_true rfl) ?_
  exact V_ireturn dX5_splitsOf_8 rfl (hQ _ _ ⟨_, rfl, ⟨rfl, rfl⟩⟩)
set_option maxHeartbeats 4000000 in
theorem m_splits (l : Launch) (S : xSt) (hS : MI S) : Cm l yX5_splits cX5_splits 1 (some .int) 8 [] S (fun r S' => ∃ x, r = some (.int x) ∧ x = tearsF (RT S) ∧ S' = RT S) := by
  refine Cm_start (ls := [some (.ref 1000)]) (by decide) rfl (Nat.le_of_ble_eq_true rfl) ?_
  intro Q hQ
  refine V_aload_n dX5_splits_0 rfl ?_
  refine Vm_callIF (m_splitsOf l _ hS) dX5_splits_1 (lw_V q1500 q1502 qs71 q103 q1503) hv_X5_splitsOf (by decide) rfl (Nat.le_of_ble_eq_true rfl) ?_
  exact V_ireturn dX5_splits_4 rfl (hQ _ _ ⟨_, rfl, ⟨rfl, rfl⟩⟩)
def neatP (d : Int32) (S : xSt) : Int32 × xSt := if nI 0 ≤ d ∧ d ≤ nI 23 then (neatF (RT S) (vN d), RT S) else (-2, S)
def nakedP (d : Int32) (S : xSt) : Int32 × xSt := if nI 0 ≤ d ∧ d ≤ nI 23 then (nakedF (RT S) (vN d), RT S) else (-2, S)
def longP (d : Int32) (S : xSt) : Int32 × xSt := if nI 0 ≤ d ∧ d ≤ nI 23 then (longF (RT S) (vN d), RT S) else (-2, S)

set_option maxHeartbeats 4000000 in
theorem m_neat (l : Launch) (S : xSt) (d : Int32) (hS : MI S) : Cm l yX5_neat cX5_neat 2 (some .int) 8 [.int d] S (fun r S' => ∃ x, r = some (.int x) ∧ x = (neatP d S).1 ∧ S' = (neatP d S).2) := by
  refine Cm_start (ls := [some (.ref 1000), some (.int d)]) (by decide) rfl (Nat.le_of_ble_eq_true rfl) ?_
  intro Q hQ
  refine V_iload_n dX5_neat_0 rfl ?_
  refine Vs_callIF (m_isDay l _) dX5_neat_1 (lw_S q1375 q1376 q103 q1377) hs_X5_isDay (by decide) rfl (Nat.le_of_ble_eq_true rfl) ?_
  refine V_if_eqB (tgt := 15) dX5_neat_4 (by decide) (fun c4 => ?_) (fun c4 => ?_)
  · refine V_bipush dX5_neat_15 lb_m2 ?_
    exact V_ireturn dX5_neat_17 rfl (hQ _ _ ⟨_, rfl, ⟨by unfold neatP; rw [if_neg c4], by unfold neatP; rw [if_neg c4]⟩⟩)
  · obtain ⟨d, hd, rfl⟩ := bd_I (by decide) c4
    have hvd : vN (nI d) = d := vN_nI (by omega)
    refine V_aload_n dX5_neat_7 rfl ?_
    refine V_iload_n dX5_neat_8 rfl ?_
    refine Vm_callIF (m_neatOf l _ d (by omega) hS) dX5_neat_9 (lw_V q1472 q1474 qs67 q103 q1475) hv_X5_neatOf (by decide) rfl (Nat.le_of_ble_eq_true rfl) ?_
    refine V_goto (tgt := 17) dX5_neat_12 (by decide) ?_
    exact V_ireturn dX5_neat_17 rfl (hQ _ _ ⟨_, rfl, ⟨by unfold neatP; rw [if_pos c4, hvd], by unfold neatP; rw [if_pos c4, hvd]⟩⟩)
set_option maxHeartbeats 4000000 in
theorem m_naked (l : Launch) (S : xSt) (d : Int32) (hS : MI S) : Cm l yX5_naked cX5_naked 2 (some .int) 8 [.int d] S (fun r S' => ∃ x, r = some (.int x) ∧ x = (nakedP d S).1 ∧ S' = (nakedP d S).2) := by
  refine Cm_start (ls := [some (.ref 1000), some (.int d)]) (by decide) rfl (Nat.le_of_ble_eq_true rfl) ?_
  intro Q hQ
  refine V_iload_n dX5_naked_0 rfl ?_
  refine Vs_callIF (m_isDay l _) dX5_naked_1 (lw_S q1375 q1376 q103 q1377) hs_X5_isDay (by decide) rfl (Nat.le_of_ble_eq_true rfl) ?_
  refine V_if_eqB (tgt := 15) dX5_naked_4 (by decide) (fun c4 => ?_) (fun c4 => ?_)
  · refine V_bipush dX5_naked_15 lb_m2 ?_
    exact V_ireturn dX5_naked_17 rfl (hQ _ _ ⟨_, rfl, ⟨by unfold nakedP; rw [if_neg c4], by unfold nakedP; rw [if_neg c4]⟩⟩)
  · obtain ⟨d, hd, rfl⟩ := bd_I (by decide) c4
    have hvd : vN (nI d) = d := vN_nI (by omega)
    refine V_aload_n dX5_naked_7 rfl ?_
    refine V_iload_n dX5_naked_8 rfl ?_
    refine Vm_callIF (m_nakedOf l _ d (by omega) hS) dX5_naked_9 (lw_V q1480 q1482 qs68 q103 q1483) hv_X5_nakedOf (by decide) rfl (Nat.le_of_ble_eq_true rfl) ?_
    refine V_goto (tgt := 17) dX5_naked_12 (by decide) ?_
    exact V_ireturn dX5_naked_17 rfl (hQ _ _ ⟨_, rfl, ⟨by unfold nakedP; rw [if_pos c4, hvd], by unfold nakedP; rw [if_pos c4, hvd]⟩⟩)
set_option maxHeartbeats 4000000 in
theorem m_longest (l : Launch) (S : xSt) (d : Int32) (hS : MI S) : Cm l yX5_longest cX5_longest 2 (some .int) 8 [.int d] S (fun r S' => ∃ x, r = some (.int x) ∧ x = (longP d S).1 ∧ S' = (longP d S).2) := by
  refine Cm_start (ls := [some (.ref 1000), some (.int d)]) (by decide) rfl (Nat.le_of_ble_eq_true rfl) ?_
  intro Q hQ
  refine V_iload_n dX5_longest_0 rfl ?_
  refine Vs_callIF (m_isDay l _) dX5_longest_1 (lw_S q1375 q1376 q103 q1377) hs_X5_isDay (by decide) rfl (Nat.le_of_ble_eq_true rfl) ?_
  refine V_if_eqB (tgt := 15) dX5_longest_4 (by decide) (fun c4 => ?_) (fun c4 => ?_)
  · refine V_bipush dX5_longest_15 lb_m2 ?_
    exact V_ireturn dX5_longest_17 rfl (hQ _ _ ⟨_, rfl, ⟨by unfold longP; rw [if_neg c4], by unfold longP; rw [if_neg c4]⟩⟩)
  · obtain ⟨d, hd, rfl⟩ := bd_I (by decide) c4
    have hvd : vN (nI d) = d := vN_nI (by omega)
    refine V_aload_n dX5_longest_7 rfl ?_
    refine V_iload_n dX5_longest_8 rfl ?_
    refine Vm_callIF (m_longestOf l _ d (by omega) hS) dX5_longest_9 (lw_V q1492 q1494 qs70 q103 q1495) hv_X5_longestOf (by decide) rfl (Nat.le_of_ble_eq_true rfl) ?_
    refine V_goto (tgt := 17) dX5_longest_12 (by decide) ?_
    exact V_ireturn dX5_longest_17 rfl (hQ _ _ ⟨_, rfl, ⟨by unfold longP; rw [if_pos c4, hvd], by unfold longP; rw [if_pos c4, hvd]⟩⟩)
set_option maxHeartbeats 4000000 in
theorem m_bestNow (l : Launch) (S : xSt) (hS : MI S) : Cm l yX5_bestNow cX5_bestNow 3 (some .int) 7 [] S (fun r S' => ∃ x, r = some (.int x) ∧ x = bestF (RT S) ∧ S' = RT S) := by
  refine Cm_start (ls := [some (.ref 1000), none, none]) (by decide) rfl (Nat.le_of_ble_eq_true rfl) ?_
  intro Q hQ
  have hp := RT_p hS
  have hT := m_runsTold l S hS
  generalize RT S = R at hQ hp hT
  have L : ∀ (j : Nat) (i : Nat) (a : Int32) (hj : i + j = 24) (ha : bd a 23) (hR : itA (beF R) j i a = itA (beF R) 23 1 (nI 0)), V l (yX5_bestNow.cls, cX5_bestNow, 3, (some .int), [], yX5_bestNow.name) (rmD 7 0 0, xF0, Q, xX0) 8 [some (.ref 1000), some (.int a), some (.int (nI i))] [] (mW R) 0 0 := by
    intro j
    induction j with
    | zero =>
      intro i a hj ha hR
      refine V_iload_n dX5_bestNow_8 rfl ?_
      refine V_bipush dX5_bestNow_9 lb_24 ?_
      refine V_icmp_ge (tgt := 39) dX5_bestNow_11 (by decide) (fun _ => ?_) (fun c11 => absurd (nI_le (by omega) (by omega)) c11)
      refine V_aload_n dX5_bestNow_39 rfl ?_
      refine Vm_getI 2 dX5_bestNow_40 q1166 (by decide) ?_
      refine V_if_ne (tgt := 50) dX5_bestNow_43 (by decide) (fun c43 => ?_) (fun c43 => ?_)
      · refine V_iload_n dX5_bestNow_50 rfl ?_
        exact V_ireturn dX5_bestNow_51 rfl (hQ _ _ ⟨_, rfl, ⟨by unfold bestF; rw [if_neg c43]; exact hR, rfl⟩⟩)
      · refine V_iconst dX5_bestNow_46 li_m1 ?_
        refine V_goto (tgt := 51) dX5_bestNow_47 (by decide) ?_
        exact V_ireturn dX5_bestNow_51 rfl (hQ _ _ ⟨_, rfl, ⟨by unfold bestF; rw [if_pos c43], rfl⟩⟩)
    | succ j ih =>
      intro i a hj ha hR
      obtain ⟨q, hq, rfl⟩ := ha
      have hv : vN (nI q) = q := vN_nI (by omega)
      refine V_iload_n dX5_bestNow_8 rfl ?_
      refine V_bipush dX5_bestNow_9 lb_24 ?_
      refine V_icmp_ge (tgt := 39) dX5_bestNow_11 (by decide) (fun c11 => absurd c11 (nI_ge (by omega) (by omega))) (fun _ => ?_)
      refine V_aload_n dX5_bestNow_14 rfl ?_
      refine V_iload_n dX5_bestNow_15 rfl ?_
      refine Vm_callIF (m_fitMany l _ _ (by omega) hp) dX5_bestNow_16 (lw_V q1516 q1518 qs74 q103 q1519) hv_X5_fitMany (by decide) rfl (Nat.le_of_ble_eq_true rfl) ?_
      refine V_aload_n dX5_bestNow_19 rfl ?_
      refine V_iload_n dX5_bestNow_20 rfl ?_
      refine Vm_callIF (m_fitMany l _ q (by omega) hp) dX5_bestNow_21 (lw_V q1516 q1518 qs74 q103 q1519) hv_X5_fitMany (by decide) rfl (Nat.le_of_ble_eq_true rfl) ?_
      refine V_icmp_le (tgt := 31) dX5_bestNow_24 (by decide) (fun c24 => ?_) (fun c24 => ?_)
      · rw [← hv] at c24
        refine V_iload_n dX5_bestNow_31 rfl ?_
        refine V_istore_n dX5_bestNow_32 rfl (Nat.le_of_ble_eq_true rfl) (Nat.le_of_ble_eq_true rfl) ?_
        refine V_iinc dX5_bestNow_33 rfl (iinc_1 _) rfl (Nat.le_of_ble_eq_true rfl) ?_
        refine V_goto (tgt := 8) dX5_bestNow_36 (by decide) ?_
        exact ih (i + 1) _ (by omega) (by first | exact ⟨q, hq, rfl⟩ | exact ⟨i, by omega, rfl⟩) ((congrArg (itA (beF R) j (i + 1)) (show _ = (beF R) i _ by unfold beF; rw [if_pos c24])).trans hR)
      · rw [← hv] at c24
        refine V_iload_n dX5_bestNow_27 rfl ?_
        refine V_goto (tgt := 32) dX5_bestNow_28 (by decide) ?_
        refine V_istore_n dX5_bestNow_32 rfl (Nat.le_of_ble_eq_true rfl) (Nat.le_of_ble_eq_true rfl) ?_
        refine V_iinc dX5_bestNow_33 rfl (iinc_1 _) rfl (Nat.le_of_ble_eq_true rfl) ?_
        refine V_goto (tgt := 8) dX5_bestNow_36 (by decide) ?_
        exact ih (i + 1) _ (by omega) (by first | exact ⟨q, hq, rfl⟩ | exact ⟨i, by omega, rfl⟩) ((congrArg (itA (beF R) j (i + 1)) (show _ = (beF R) i _ by unfold beF; rw [if_neg c24])).trans hR)
  refine V_aload_n dX5_bestNow_0 rfl ?_
  refine Vm_callVF hT dX5_bestNow_1 (lw_V q1413 q1415 qs55 q103 q1416) hv_X5_runsTold (by decide) rfl (Nat.le_of_ble_eq_true rfl) ?_
  refine V_iconst dX5_bestNow_4 li_0 ?_
  refine V_istore_n dX5_bestNow_5 rfl (Nat.le_of_ble_eq_true rfl) (Nat.le_of_ble_eq_true rfl) ?_
  refine V_iconst dX5_bestNow_6 li_1 ?_
  refine V_istore_n dX5_bestNow_7 rfl (Nat.le_of_ble_eq_true rfl) (Nat.le_of_ble_eq_true rfl) ?_
  exact L 23 1 (nI 0) (by omega) ⟨0, by omega, rfl⟩ rfl
set_option maxHeartbeats 4000000 in
theorem m_best (l : Launch) (S : xSt) (hS : MI S) : Cm l yX5_best cX5_best 1 (some .int) 8 [] S (fun r S' => ∃ x, r = some (.int x) ∧ x = bestF (RT S) ∧ S' = RT S) := by
  refine Cm_start (ls := [some (.ref 1000)]) (by decide) rfl (Nat.le_of_ble_eq_true rfl) ?_
  intro Q hQ
  refine V_aload_n dX5_best_0 rfl ?_
  refine Vm_callIF (m_bestNow l _ hS) dX5_best_1 (lw_V q1512 q1514 qs73 q103 q1515) hv_X5_bestNow (by decide) rfl (Nat.le_of_ble_eq_true rfl) ?_
  exact V_ireturn dX5_best_4 rfl (hQ _ _ ⟨_, rfl, ⟨rfl, rfl⟩⟩)
theorem RD_p {S : xSt} (h : MI S) : bd (readsF S 2 0) 8 ∧ bd (readsF S 5 0) 10 := (readsF_b h.2.1).2
def coatP (d k what : Int32) (S : xSt) : Int32 × xSt := if nI 0 ≤ d ∧ d ≤ nI 23 then (if nI 0 ≤ k ∧ k ≤ readsF S 2 0 - nI 1 then (if nI 0 ≤ what ∧ what ≤ nI 2 then (coatV (RT (readsF S)) (vN d) (vN k) what, RT (readsF S)) else (-2, readsF S)) else (-2, readsF S)) else (-2, S)
def standsP (d p : Int32) (S : xSt) : Int32 × xSt := if nI 0 ≤ d ∧ d ≤ nI 23 then (if nI 0 ≤ p ∧ p ≤ readsF S 5 0 - nI 1 then (RT (readsF S) 32 (12 * vN d + vN p), RT (readsF S)) else (-2, readsF S)) else (-2, S)
def personV (S : xSt) (k : Nat) (what : Int32) : Int32 := if what = 0 then S 3 k else S 4 k
def promiseV (S : xSt) (k : Nat) (what : Int32) : Int32 := if what = 0 then S 6 k else if what = nI 1 then S 7 k else if what = nI 2 then S 8 k else S 9 k
def personP (k what : Int32) (S : xSt) : Int32 × xSt := if nI 0 ≤ k ∧ k ≤ readsF S 2 0 - nI 1 then (if nI 0 ≤ what ∧ what ≤ nI 1 then (personV (readsF S) (vN k) what, readsF S) else (-2, readsF S)) else (-2, readsF S)
def promiseP (k what : Int32) (S : xSt) : Int32 × xSt := if nI 0 ≤ k ∧ k ≤ readsF S 5 0 - nI 1 then (if nI 0 ≤ what ∧ what ≤ nI 3 then (promiseV (readsF S) (vN k) what, readsF S) else (-2, readsF S)) else (-2, readsF S)

set_option maxHeartbeats 4000000 in
theorem m_coatOf (l : Launch) (S : xSt) (d k : Nat) (what : Int32) (hd : d < 24) (hk : k < 8) (hS : MI S) : Cm l yX5_coatOf cX5_coatOf 4 (some .int) 7 [.int (nI d), .int (nI k), .int what] S (fun r S' => ∃ x, r = some (.int x) ∧ x = coatV (RT S) d k what ∧ S' = RT S) := by
  refine Cm_start (ls := [some (.ref 1000), some (.int (nI d)), some (.int (nI k)), some (.int what)]) (by decide) rfl (Nat.le_of_ble_eq_true rfl) ?_
  intro Q hQ
  have hp := RT_p hS
  have hT := m_runsTold l S hS
  generalize RT S = R at hQ hp hT
  refine V_aload_n dX5_coatOf_0 rfl ?_
  refine Vm_callVF hT dX5_coatOf_1 (lw_V q1413 q1415 qs55 q103 q1416) hv_X5_runsTold (by decide) rfl (Nat.le_of_ble_eq_true rfl) ?_
  refine V_iload_n dX5_coatOf_4 rfl ?_
  refine V_if_ne (tgt := 22) dX5_coatOf_5 (by decide) (fun c5 => ?_) (fun c5 => ?_)
  · refine V_iload_n dX5_coatOf_22 rfl ?_
    refine V_iconst dX5_coatOf_23 li_1 ?_
    refine V_icmp_ne (tgt := 44) dX5_coatOf_24 (by decide) (fun c24 => ?_) (fun c24 => ?_)
    · refine V_aload_n dX5_coatOf_44 rfl ?_
      refine Vm_getA 31 dX5_coatOf_45 q1195 (by decide) ?_
      refine V_bipush dX5_coatOf_48 lb_8 ?_
      refine V_iload_n dX5_coatOf_50 rfl ?_
      refine V_imulN dX5_coatOf_51 ?_
      refine V_iload_n dX5_coatOf_52 rfl ?_
      refine V_iaddN dX5_coatOf_53 ?_
      refine Vm_iald dX5_coatOf_54 (by first | rfl | assumption) (by show _ < 192; omega) (by decide) ?_
      exact V_ireturn dX5_coatOf_55 rfl (hQ _ _ ⟨_, rfl, ⟨by unfold coatV; rw [if_neg c5, if_neg c24], rfl⟩⟩)
    · refine V_aload_n dX5_coatOf_27 rfl ?_
      refine V_iload_n dX5_coatOf_28 rfl ?_
      refine V_iload_n dX5_coatOf_29 rfl ?_
      refine Vm_callIF (m_fitsOn l _ _ _ (by omega) (by omega)) dX5_coatOf_30 (lw_V q1456 q1458 qs65 q103 q1459) hv_X5_fitsOn (by decide) rfl (Nat.le_of_ble_eq_true rfl) ?_
      refine V_if_eqB (tgt := 40) dX5_coatOf_33 (by decide) (fun c33 => ?_) (fun c33 => ?_)
      · refine V_iconst dX5_coatOf_40 li_0 ?_
        refine V_goto (tgt := 55) dX5_coatOf_41 (by decide) ?_
        exact V_ireturn dX5_coatOf_55 rfl (hQ _ _ ⟨_, rfl, ⟨by unfold coatV; rw [if_neg c5, if_pos c24, if_neg c33], rfl⟩⟩)
      · refine V_iconst dX5_coatOf_36 li_1 ?_
        refine V_goto (tgt := 55) dX5_coatOf_37 (by decide) ?_
        exact V_ireturn dX5_coatOf_55 rfl (hQ _ _ ⟨_, rfl, ⟨by unfold coatV; rw [if_neg c5, if_pos c24, if_pos c33], rfl⟩⟩)
  · refine V_aload_n dX5_coatOf_8 rfl ?_
    refine Vm_getA 30 dX5_coatOf_9 q1194 (by decide) ?_
    refine V_bipush dX5_coatOf_12 lb_8 ?_
    refine V_iload_n dX5_coatOf_14 rfl ?_
    refine V_imulN dX5_coatOf_15 ?_
    refine V_iload_n dX5_coatOf_16 rfl ?_
    refine V_iaddN dX5_coatOf_17 ?_
    refine Vm_iald dX5_coatOf_18 (by first | rfl | assumption) (by show _ < 192; omega) (by decide) ?_
    refine V_goto (tgt := 55) dX5_coatOf_19 (by decide) ?_
    exact V_ireturn dX5_coatOf_55 rfl (hQ _ _ ⟨_, rfl, ⟨by unfold coatV; rw [if_pos c5], rfl⟩⟩)
set_option maxHeartbeats 4000000 in
theorem m_standsOf (l : Launch) (S : xSt) (d p : Nat) (hd : d < 24) (hp : p < 10) (hS : MI S) : Cm l yX5_standsOf cX5_standsOf 3 (some .int) 7 [.int (nI d), .int (nI p)] S (fun r S' => ∃ x, r = some (.int x) ∧ x = RT S 32 (12 * d + p) ∧ S' = RT S) := by
  refine Cm_start (ls := [some (.ref 1000), some (.int (nI d)), some (.int (nI p))]) (by decide) rfl (Nat.le_of_ble_eq_true rfl) ?_
  intro Q hQ
  have hT := m_runsTold l S hS
  generalize RT S = R at hQ hT
  refine V_aload_n dX5_standsOf_0 rfl ?_
  refine Vm_callVF hT dX5_standsOf_1 (lw_V q1413 q1415 qs55 q103 q1416) hv_X5_runsTold (by decide) rfl (Nat.le_of_ble_eq_true rfl) ?_
  refine V_aload_n dX5_standsOf_4 rfl ?_
  refine Vm_getA 32 dX5_standsOf_5 q1196 (by decide) ?_
  refine V_bipush dX5_standsOf_8 lb_12 ?_
  refine V_iload_n dX5_standsOf_10 rfl ?_
  refine V_imulN dX5_standsOf_11 ?_
  refine V_iload_n dX5_standsOf_12 rfl ?_
  refine V_iaddN dX5_standsOf_13 ?_
  refine Vm_iald dX5_standsOf_14 (by first | rfl | assumption) (by show _ < 288; omega) (by decide) ?_
  exact V_ireturn dX5_standsOf_15 rfl (hQ _ _ ⟨_, rfl, ⟨rfl, rfl⟩⟩)
set_option maxHeartbeats 4000000 in
theorem m_personOf (l : Launch) (S : xSt) (k : Nat) (what : Int32) (hk : k < 8) : Cm l yX5_personOf cX5_personOf 3 (some .int) 0 [.int (nI k), .int what] S (fun r S' => ∃ x, r = some (.int x) ∧ x = personV S k what ∧ S' = S) := by
  refine Cm_start (ls := [some (.ref 1000), some (.int (nI k)), some (.int what)]) (by decide) rfl (Nat.le_of_ble_eq_true rfl) ?_
  intro Q hQ
  refine V_iload_n dX5_personOf_0 rfl ?_
  refine V_if_ne (tgt := 13) dX5_personOf_1 (by decide) (fun c1 => ?_) (fun c1 => ?_)
  · refine V_aload_n dX5_personOf_13 rfl ?_
    refine Vm_getA 4 dX5_personOf_14 q1168 (by decide) ?_
    refine V_iload_n dX5_personOf_17 rfl ?_
    refine Vm_iald dX5_personOf_18 (by first | rfl | assumption) (by show _ < 9; omega) (by decide) ?_
    exact V_ireturn dX5_personOf_19 rfl (hQ _ _ ⟨_, rfl, ⟨by unfold personV; rw [if_neg c1], rfl⟩⟩)
  · refine V_aload_n dX5_personOf_4 rfl ?_
    refine Vm_getA 3 dX5_personOf_5 q1167 (by decide) ?_
    refine V_iload_n dX5_personOf_8 rfl ?_
    refine Vm_iald dX5_personOf_9 (by first | rfl | assumption) (by show _ < 9; omega) (by decide) ?_
    refine V_goto (tgt := 19) dX5_personOf_10 (by decide) ?_
    exact V_ireturn dX5_personOf_19 rfl (hQ _ _ ⟨_, rfl, ⟨by unfold personV; rw [if_pos c1], rfl⟩⟩)
set_option maxHeartbeats 4000000 in
theorem m_promiseOf (l : Launch) (S : xSt) (k : Nat) (what : Int32) (hk : k < 10) : Cm l yX5_promiseOf cX5_promiseOf 3 (some .int) 0 [.int (nI k), .int what] S (fun r S' => ∃ x, r = some (.int x) ∧ x = promiseV S k what ∧ S' = S) := by
  refine Cm_start (ls := [some (.ref 1000), some (.int (nI k)), some (.int what)]) (by decide) rfl (Nat.le_of_ble_eq_true rfl) ?_
  intro Q hQ
  refine V_iload_n dX5_promiseOf_0 rfl ?_
  refine V_if_ne (tgt := 13) dX5_promiseOf_1 (by decide) (fun c1 => ?_) (fun c1 => ?_)
  · refine V_iload_n dX5_promiseOf_13 rfl ?_
    refine V_iconst dX5_promiseOf_14 li_1 ?_
    refine V_icmp_ne (tgt := 27) dX5_promiseOf_15 (by decide) (fun c15 => ?_) (fun c15 => ?_)
    · refine V_iload_n dX5_promiseOf_27 rfl ?_
      refine V_iconst dX5_promiseOf_28 li_2 ?_
      refine V_icmp_ne (tgt := 41) dX5_promiseOf_29 (by decide) (fun c29 => ?_) (fun c29 => ?_)
      · refine V_aload_n dX5_promiseOf_41 rfl ?_
        refine Vm_getA 9 dX5_promiseOf_42 q1173 (by decide) ?_
        refine V_iload_n dX5_promiseOf_45 rfl ?_
        refine Vm_iald dX5_promiseOf_46 (by first | rfl | assumption) (by show _ < 12; omega) (by decide) ?_
        exact V_ireturn dX5_promiseOf_47 rfl (hQ _ _ ⟨_, rfl, ⟨by unfold promiseV; rw [if_neg c1, if_neg c15, if_neg c29], rfl⟩⟩)
      · refine V_aload_n dX5_promiseOf_32 rfl ?_
        refine Vm_getA 8 dX5_promiseOf_33 q1172 (by decide) ?_
        refine V_iload_n dX5_promiseOf_36 rfl ?_
        refine Vm_iald dX5_promiseOf_37 (by first | rfl | assumption) (by show _ < 12; omega) (by decide) ?_
        refine V_goto (tgt := 47) dX5_promiseOf_38 (by decide) ?_
        exact V_ireturn dX5_promiseOf_47 rfl (hQ _ _ ⟨_, rfl, ⟨by unfold promiseV; rw [if_neg c1, if_neg c15, if_pos c29], rfl⟩⟩)
    · refine V_aload_n dX5_promiseOf_18 rfl ?_
      refine Vm_getA 7 dX5_promiseOf_19 q1171 (by decide) ?_
      refine V_iload_n dX5_promiseOf_22 rfl ?_
      refine Vm_iald dX5_promiseOf_23 (by first | rfl | assumption) (by show _ < 12; omega) (by decide) ?_
      refine V_goto (tgt := 47) dX5_promiseOf_24 (by decide) ?_
      exact V_ireturn dX5_promiseOf_47 rfl (hQ _ _ ⟨_, rfl, ⟨by unfold promiseV; rw [if_neg c1, if_pos c15], rfl⟩⟩)
  · refine V_aload_n dX5_promiseOf_4 rfl ?_
    refine Vm_getA 6 dX5_promiseOf_5 q1170 (by decide) ?_
    refine V_iload_n dX5_promiseOf_8 rfl ?_
    refine Vm_iald dX5_promiseOf_9 (by first | rfl | assumption) (by show _ < 12; omega) (by decide) ?_
    refine V_goto (tgt := 47) dX5_promiseOf_10 (by decide) ?_
    exact V_ireturn dX5_promiseOf_47 rfl (hQ _ _ ⟨_, rfl, ⟨by unfold promiseV; rw [if_pos c1], rfl⟩⟩)
set_option maxHeartbeats 4000000 in
theorem m_coat (l : Launch) (S : xSt) (d k what : Int32) (hS : MI S) : Cm l yX5_coat cX5_coat 4 (some .int) 8 [.int d, .int k, .int what] S (fun r S' => ∃ x, r = some (.int x) ∧ x = (coatP d k what S).1 ∧ S' = (coatP d k what S).2) := by
  refine Cm_start (ls := [some (.ref 1000), some (.int d), some (.int k), some (.int what)]) (by decide) rfl (Nat.le_of_ble_eq_true rfl) ?_
  intro Q hQ
  have hRp := (RD_p hS).1
  have hMR := MI_reads hS
  have hI := m_isPerson l S k hS.1
  refine V_iload_n dX5_coat_0 rfl ?_
  refine Vs_callIF (m_isDay l _) dX5_coat_1 (lw_S q1375 q1376 q103 q1377) hs_X5_isDay (by decide) rfl (Nat.le_of_ble_eq_true rfl) ?_
  refine V_if_eqB (tgt := 34) dX5_coat_4 (by decide) (fun c4 => ?_) (fun c4 => ?_)
  · refine V_bipush dX5_coat_34 lb_m2 ?_
    exact V_ireturn dX5_coat_36 rfl (hQ _ _ ⟨_, rfl, ⟨by unfold coatP; rw [if_neg c4], by unfold coatP; rw [if_neg c4]⟩⟩)
  · obtain ⟨d, hd, rfl⟩ := bd_I (by decide) c4
    have hvd : vN (nI d) = d := vN_nI (by omega)
    refine V_aload_n dX5_coat_7 rfl ?_
    refine V_iload_n dX5_coat_8 rfl ?_
    refine Vm_callIF hI dX5_coat_9 (lw_V q1347 q1349 qs48 q103 q1350) hv_X5_isPerson (by decide) rfl (Nat.le_of_ble_eq_true rfl) ?_
    refine V_if_eqB (tgt := 34) dX5_coat_12 (by decide) (fun c12 => ?_) (fun c12 => ?_)
    · refine V_bipush dX5_coat_34 lb_m2 ?_
      exact V_ireturn dX5_coat_36 rfl (hQ _ _ ⟨_, rfl, ⟨by unfold coatP; rw [if_pos c4, if_neg c12], by unfold coatP; rw [if_pos c4, if_neg c12]⟩⟩)
    · obtain ⟨k, rfl, -, hk⟩ := bd_in (n := 8) (by decide) hRp c12
      have hvk : vN (nI k) = k := vN_nI (by omega)
      refine V_iload_n dX5_coat_15 rfl ?_
      refine V_iconst dX5_coat_16 li_0 ?_
      refine V_iconst dX5_coat_17 li_2 ?_
      refine Vs_callIF (m_in l _ _ _) dX5_coat_18 (lw_S q1308 q1309 q103 q1310) hs_X5_in (by decide) rfl (Nat.le_of_ble_eq_true rfl) ?_
      refine V_if_eqB (tgt := 34) dX5_coat_21 (by decide) (fun c21 => ?_) (fun c21 => ?_)
      · refine V_bipush dX5_coat_34 lb_m2 ?_
        exact V_ireturn dX5_coat_36 rfl (hQ _ _ ⟨_, rfl, ⟨by unfold coatP; rw [if_pos c4, if_pos c12, if_neg c21], by unfold coatP; rw [if_pos c4, if_pos c12, if_neg c21]⟩⟩)
      · refine V_aload_n dX5_coat_24 rfl ?_
        refine V_iload_n dX5_coat_25 rfl ?_
        refine V_iload_n dX5_coat_26 rfl ?_
        refine V_iload_n dX5_coat_27 rfl ?_
        refine Vm_callIF (m_coatOf l _ d k what (by omega) hk hMR) dX5_coat_28 (lw_V q1409 q1411 qs54 q103 q1412) hv_X5_coatOf (by decide) rfl (Nat.le_of_ble_eq_true rfl) ?_
        refine V_goto (tgt := 36) dX5_coat_31 (by decide) ?_
        exact V_ireturn dX5_coat_36 rfl (hQ _ _ ⟨_, rfl, ⟨by unfold coatP; rw [if_pos c4, if_pos c12, if_pos c21, hvd, hvk], by unfold coatP; rw [if_pos c4, if_pos c12, if_pos c21, hvd, hvk]⟩⟩)
set_option maxHeartbeats 4000000 in
theorem m_stands (l : Launch) (S : xSt) (d p : Int32) (hS : MI S) : Cm l yX5_stands cX5_stands 3 (some .int) 8 [.int d, .int p] S (fun r S' => ∃ x, r = some (.int x) ∧ x = (standsP d p S).1 ∧ S' = (standsP d p S).2) := by
  refine Cm_start (ls := [some (.ref 1000), some (.int d), some (.int p)]) (by decide) rfl (Nat.le_of_ble_eq_true rfl) ?_
  intro Q hQ
  have hRp := (RD_p hS).2
  have hMR := MI_reads hS
  have hI := m_isPromise l S p hS.1
  refine V_iload_n dX5_stands_0 rfl ?_
  refine Vs_callIF (m_isDay l _) dX5_stands_1 (lw_S q1375 q1376 q103 q1377) hs_X5_isDay (by decide) rfl (Nat.le_of_ble_eq_true rfl) ?_
  refine V_if_eqB (tgt := 24) dX5_stands_4 (by decide) (fun c4 => ?_) (fun c4 => ?_)
  · refine V_bipush dX5_stands_24 lb_m2 ?_
    exact V_ireturn dX5_stands_26 rfl (hQ _ _ ⟨_, rfl, ⟨by unfold standsP; rw [if_neg c4], by unfold standsP; rw [if_neg c4]⟩⟩)
  · obtain ⟨d, hd, rfl⟩ := bd_I (by decide) c4
    have hvd : vN (nI d) = d := vN_nI (by omega)
    refine V_aload_n dX5_stands_7 rfl ?_
    refine V_iload_n dX5_stands_8 rfl ?_
    refine Vm_callIF hI dX5_stands_9 (lw_V q1363 q1365 qs51 q103 q1366) hv_X5_isPromise (by decide) rfl (Nat.le_of_ble_eq_true rfl) ?_
    refine V_if_eqB (tgt := 24) dX5_stands_12 (by decide) (fun c12 => ?_) (fun c12 => ?_)
    · refine V_bipush dX5_stands_24 lb_m2 ?_
      exact V_ireturn dX5_stands_26 rfl (hQ _ _ ⟨_, rfl, ⟨by unfold standsP; rw [if_pos c4, if_neg c12], by unfold standsP; rw [if_pos c4, if_neg c12]⟩⟩)
    · obtain ⟨p, rfl, -, hp⟩ := bd_in (n := 10) (by decide) hRp c12
      have hvp : vN (nI p) = p := vN_nI (by omega)
      refine V_aload_n dX5_stands_15 rfl ?_
      refine V_iload_n dX5_stands_16 rfl ?_
      refine V_iload_n dX5_stands_17 rfl ?_
      refine Vm_callIF (m_standsOf l _ d p (by omega) hp hMR) dX5_stands_18 (lw_V q1464 q1466 qs66 q103 q1467) hv_X5_standsOf (by decide) rfl (Nat.le_of_ble_eq_true rfl) ?_
      refine V_goto (tgt := 26) dX5_stands_21 (by decide) ?_
      exact V_ireturn dX5_stands_26 rfl (hQ _ _ ⟨_, rfl, ⟨by unfold standsP; rw [if_pos c4, if_pos c12, hvd, hvp], by unfold standsP; rw [if_pos c4, if_pos c12, hvd, hvp]⟩⟩)
set_option maxHeartbeats 4000000 in
theorem m_person (l : Launch) (S : xSt) (k what : Int32) (hS : MI S) : Cm l yX5_person cX5_person 3 (some .int) 6 [.int k, .int what] S (fun r S' => ∃ x, r = some (.int x) ∧ x = (personP k what S).1 ∧ S' = (personP k what S).2) := by
  refine Cm_start (ls := [some (.ref 1000), some (.int k), some (.int what)]) (by decide) rfl (Nat.le_of_ble_eq_true rfl) ?_
  intro Q hQ
  have hRp := (RD_p hS).1
  have hI := m_isPerson l S k hS.1
  refine V_aload_n dX5_person_0 rfl ?_
  refine V_iload_n dX5_person_1 rfl ?_
  refine Vm_callIF hI dX5_person_2 (lw_V q1347 q1349 qs48 q103 q1350) hv_X5_isPerson (by decide) rfl (Nat.le_of_ble_eq_true rfl) ?_
  refine V_if_eqB (tgt := 26) dX5_person_5 (by decide) (fun c5 => ?_) (fun c5 => ?_)
  · refine V_bipush dX5_person_26 lb_m2 ?_
    exact V_ireturn dX5_person_28 rfl (hQ _ _ ⟨_, rfl, ⟨by unfold personP; rw [if_neg c5], by unfold personP; rw [if_neg c5]⟩⟩)
  · obtain ⟨k, rfl, -, hk⟩ := bd_in (n := 8) (by decide) hRp c5
    have hvk : vN (nI k) = k := vN_nI (by omega)
    refine V_iload_n dX5_person_8 rfl ?_
    refine V_iconst dX5_person_9 li_0 ?_
    refine V_iconst dX5_person_10 li_1 ?_
    refine Vs_callIF (m_in l _ _ _) dX5_person_11 (lw_S q1308 q1309 q103 q1310) hs_X5_in (by decide) rfl (Nat.le_of_ble_eq_true rfl) ?_
    refine V_if_eqB (tgt := 26) dX5_person_14 (by decide) (fun c14 => ?_) (fun c14 => ?_)
    · refine V_bipush dX5_person_26 lb_m2 ?_
      exact V_ireturn dX5_person_28 rfl (hQ _ _ ⟨_, rfl, ⟨by unfold personP; rw [if_pos c5, if_neg c14], by unfold personP; rw [if_pos c5, if_neg c14]⟩⟩)
    · refine V_aload_n dX5_person_17 rfl ?_
      refine V_iload_n dX5_person_18 rfl ?_
      refine V_iload_n dX5_person_19 rfl ?_
      refine Vm_callIF (m_personOf l _ k what hk) dX5_person_20 (lw_V q1355 q1357 qs50 q103 q1358) hv_X5_personOf (by decide) rfl (Nat.le_of_ble_eq_true rfl) ?_
      refine V_goto (tgt := 28) dX5_person_23 (by decide) ?_
      exact V_ireturn dX5_person_28 rfl (hQ _ _ ⟨_, rfl, ⟨by unfold personP; rw [if_pos c5, if_pos c14, hvk], by unfold personP; rw [if_pos c5, if_pos c14, hvk]⟩⟩)
set_option maxHeartbeats 4000000 in
theorem m_promise (l : Launch) (S : xSt) (k what : Int32) (hS : MI S) : Cm l yX5_promise cX5_promise 3 (some .int) 6 [.int k, .int what] S (fun r S' => ∃ x, r = some (.int x) ∧ x = (promiseP k what S).1 ∧ S' = (promiseP k what S).2) := by
  refine Cm_start (ls := [some (.ref 1000), some (.int k), some (.int what)]) (by decide) rfl (Nat.le_of_ble_eq_true rfl) ?_
  intro Q hQ
  have hRp := (RD_p hS).2
  have hI := m_isPromise l S k hS.1
  refine V_aload_n dX5_promise_0 rfl ?_
  refine V_iload_n dX5_promise_1 rfl ?_
  refine Vm_callIF hI dX5_promise_2 (lw_V q1363 q1365 qs51 q103 q1366) hv_X5_isPromise (by decide) rfl (Nat.le_of_ble_eq_true rfl) ?_
  refine V_if_eqB (tgt := 26) dX5_promise_5 (by decide) (fun c5 => ?_) (fun c5 => ?_)
  · refine V_bipush dX5_promise_26 lb_m2 ?_
    exact V_ireturn dX5_promise_28 rfl (hQ _ _ ⟨_, rfl, ⟨by unfold promiseP; rw [if_neg c5], by unfold promiseP; rw [if_neg c5]⟩⟩)
  · obtain ⟨k, rfl, -, hk⟩ := bd_in (n := 10) (by decide) hRp c5
    have hvk : vN (nI k) = k := vN_nI (by omega)
    refine V_iload_n dX5_promise_8 rfl ?_
    refine V_iconst dX5_promise_9 li_0 ?_
    refine V_iconst dX5_promise_10 li_3 ?_
    refine Vs_callIF (m_in l _ _ _) dX5_promise_11 (lw_S q1308 q1309 q103 q1310) hs_X5_in (by decide) rfl (Nat.le_of_ble_eq_true rfl) ?_
    refine V_if_eqB (tgt := 26) dX5_promise_14 (by decide) (fun c14 => ?_) (fun c14 => ?_)
    · refine V_bipush dX5_promise_26 lb_m2 ?_
      exact V_ireturn dX5_promise_28 rfl (hQ _ _ ⟨_, rfl, ⟨by unfold promiseP; rw [if_pos c5, if_neg c14], by unfold promiseP; rw [if_pos c5, if_neg c14]⟩⟩)
    · refine V_aload_n dX5_promise_17 rfl ?_
      refine V_iload_n dX5_promise_18 rfl ?_
      refine V_iload_n dX5_promise_19 rfl ?_
      refine Vm_callIF (m_promiseOf l _ k what hk) dX5_promise_20 (lw_V q1367 q1369 qs52 q103 q1370) hv_X5_promiseOf (by decide) rfl (Nat.le_of_ble_eq_true rfl) ?_
      refine V_goto (tgt := 28) dX5_promise_23 (by decide) ?_
      exact V_ireturn dX5_promise_28 rfl (hQ _ _ ⟨_, rfl, ⟨by unfold promiseP; rw [if_pos c5, if_pos c14, hvk], by unfold promiseP; rw [if_pos c5, if_pos c14, hvk]⟩⟩)
