/-! the model's days -/
set_option maxRecDepth 100000
/-- steps i, i + 1 .., j of them -/
def itF (f : Nat → xSt → xSt) : Nat → Nat → xSt → xSt
  | 0, _, S => S
  | j + 1, i, S => itF f j (i + 1) (f i S)
/-- only the days' own regions differ -/
def fr (S S' : xSt) : Prop := ∀ r, r < 27 ∨ 32 < r → S' r = S r
theorem fr_rf (S : xSt) : fr S S := fun _ _ => rfl
theorem fr_tr {a b c : xSt} (h : fr a b) (h2 : fr b c) : fr a c := fun r hr => (h2 r hr).trans (h r hr)
theorem fr_mwr {S S' : xSt} (h : fr S S') {j : Nat} (hj : 27 ≤ j ∧ j ≤ 32) (i : Nat) (v : Int32) : fr S (mwr S' j i v) := fun r hr => by
  rw [← h r hr]
  funext q
  exact mwr_r _ _ _ _ (by omega)
theorem fr_cut {S S' : xSt} (h : fr S S') (k : Nat) (x : Int32) : fr S (cutS k x S') := fr_mwr h (by omega) _ _
theorem fr_it {f : Nat → xSt → xSt} (hf : ∀ i S, fr S (f i S)) : ∀ j i S, fr S (itF f j i S)
  | 0, _, S => fr_rf S
  | j + 1, i, S => fr_tr (hf i S) (fr_it hf j (i + 1) _)
/-- what the days need of the numbers -/
def PV (S : xSt) : Prop := bd (S 2 0) 8 ∧ bd (S 5 0) 10 ∧ bd (S 21 0) 11 ∧ bd (S 22 0) 9 ∧ (∀ p, p < 12 → bd (S 6 p) 7) ∧ (∀ i, i < 9 → bd (S 24 i) 9) ∧ bd (S 13 0) 6 ∧ (∀ i, i < 6 → bd (S 15 i) 7) ∧ bd (S 17 0) 6 ∧ ∀ i, i < 6 → bd (S 19 i) 7
theorem PV_fr {S S' : xSt} (h : fr S S') (hS : PV S) : PV S' := by
  unfold PV at *
  rw [h 2 (by omega), h 5 (by omega), h 21 (by omega), h 22 (by omega), h 6 (by omega), h 24 (by omega), h 13 (by omega), h 15 (by omega), h 17 (by omega), h 19 (by omega)]
  exact hS
def vN (x : Int32) : Nat := x.toNatClampNeg
theorem bd_v {x : Int32} {n : Nat} (h : bd x n) (hn : n < 2 ^ 31) : x = nI (vN x) ∧ vN x ≤ n := by
  obtain ⟨j, h1, rfl⟩ := h
  have : vN (nI j) = j := nI_clamp (by omega)
  rw [this]
  exact ⟨rfl, h1⟩
def wN (S : xSt) (p : Nat) : Nat := vN (S 6 p)
theorem PV_w {S : xSt} (h : PV S) {p : Nat} (hp : p < 12) : S 6 p = nI (wN S p) ∧ wN S p < 8 := ⟨(bd_v (h.2.2.2.2.1 p hp) (by decide)).1, Nat.lt_succ_of_le (bd_v (h.2.2.2.2.1 p hp) (by decide)).2⟩
def mkS (p : Nat) (S : xSt) : xSt := cutS (wN S p) (lenI (S 3 (wN S p)) (S 7 p)) (mwr S 29 p (nI 1))
def mkF (day : Int32) (p : Nat) (S : xSt) : xSt := if S 8 p = day then (if S 2 0 ≤ S 6 p then S else mkS p S) else S
def makesF (day : Int32) (S : xSt) : xSt := itF (mkF day) (vN (S 21 0)) 0 S
def ktX (far by_ : Int32) : Int32 := if far ≤ by_ then (if -by_ ≤ far then far else -by_) else by_
def ktS (p : Nat) (S : xSt) : xSt := cutS (wN S p) (ktX (S 4 (wN S p) - S 27 (wN S p)) (S 7 p)) (mwr S 29 p (nI 2))
def kpF (day : Int32) (i : Nat) (S : xSt) : xSt := if S 23 i = day then (if isI (S 25 0) (nI i) then S else if S 5 0 ≤ nI (vN (S 24 i)) then S else if S 29 (vN (S 24 i)) = nI 1 then ktS (vN (S 24 i)) S else S) else S
def keepsF (day : Int32) (S : xSt) : xSt := itF (kpF day) (vN (S 22 0)) 0 S
def brX (p : Nat) (S : xSt) : Int32 := -(lenI (S 3 (wN S p)) (S 7 p)) - (if S 3 (wN S p) = nI 2 then nI 2 else nI 0)
def brT (w : Nat) (S : xSt) : xSt := mwr S 28 w (S 28 w + nI 1)
def brS (p : Nat) (S : xSt) : xSt := brT (wN S p) (cutS (wN S p) (brX p S) (mwr S 29 p (nI 3)))
def brF (day : Int32) (p : Nat) (S : xSt) : xSt := if S 9 p = day then (if S 29 p = nI 1 then brS p S else S) else S
def breaksF (day : Int32) (S : xSt) : xSt := itF (brF day) (vN (S 21 0)) 0 S
theorem mkF_fr (day : Int32) (p : Nat) (S : xSt) : fr S (mkF day p S) := by
  unfold mkF mkS
  split
  · split
    · exact fr_rf S
    · exact fr_cut (fr_mwr (fr_rf S) (by omega) _ _) _ _
  · exact fr_rf S
theorem kpF_fr (day : Int32) (p : Nat) (S : xSt) : fr S (kpF day p S) := by
  unfold kpF ktS
  split
  · split
    · exact fr_rf S
    · split
      · exact fr_rf S
      · split
        · exact fr_cut (fr_mwr (fr_rf S) (by omega) _ _) _ _
        · exact fr_rf S
  · exact fr_rf S
theorem brF_fr (day : Int32) (p : Nat) (S : xSt) : fr S (brF day p S) := by
  unfold brF brS brT
  split
  · split
    · exact fr_mwr (fr_cut (fr_mwr (fr_rf S) (by omega) _ _) _ _) (by omega) _ _
    · exact fr_rf S
  · exact fr_rf S
theorem makesF_fr (day : Int32) (S : xSt) : fr S (makesF day S) := fr_it (mkF_fr day) _ _ _
theorem keepsF_fr (day : Int32) (S : xSt) : fr S (keepsF day S) := fr_it (kpF_fr day) _ _ _
theorem breaksF_fr (day : Int32) (S : xSt) : fr S (breaksF day S) := fr_it (brF_fr day) _ _ _

theorem V_mW {l : Launch} {M : xM} {Sp : xS} {pc : Nat} {ls : List (Option Value)} {st : List Value} {S S2 : xSt} {k n : Nat} (h : S2 = S) (kk : V l M Sp pc ls st (mW S2) k n) : V l M Sp pc ls st (mW S) k n := by subst h; exact kk
theorem vN_nI {n : Nat} (h : n < 2 ^ 31) : vN (nI n) = n := nI_clamp h
set_option maxHeartbeats 4000000 in
theorem m_makes (l : Launch) (S : xSt) (day : Int32) (hP : PV S) : Cm l yX5_makes cX5_makes 3 none 3 [.int day] S (fun r S' => r = none ∧ S' = makesF day S) := by
  refine Cm_start (ls := [some (.ref 1000), some (.int day), none]) (by decide) rfl (Nat.le_of_ble_eq_true rfl) ?_
  intro Q hQ
  obtain ⟨nn, hnn, hn0⟩ := hP.2.2.1
  have L2 : ∀ (j : Nat) (i : Nat) (S1 : xSt) (hj : i + j = nn) (h1 : PV S1) (hn1 : S1 21 0 = nI nn) (hR : itF (mkF day) j i S1 = makesF day S), V l (yX5_makes.cls, cX5_makes, 3, none, [], yX5_makes.name) (rmD 3 0 0, xF0, Q, xX0) 2 [some (.ref 1000), some (.int day), some (.int (nI i))] [] (mW S1) 0 0 := by
    intro j
    induction j with
    | zero =>
      intro i S1 hj h1 hn1 hR
      refine V_iload_n dX5_makes_2 rfl ?_
      refine V_aload_n dX5_makes_3 rfl ?_
      refine Vm_getI 21 dX5_makes_4 q1185 (by decide) ?_
      refine V_topi hn1 ?_
      refine V_icmp_ge (tgt := 61) dX5_makes_7 (by decide) (fun _ => ?_) (fun c7 => absurd (nI_le (by omega) (by omega)) c7)
      exact V_vreturn dX5_makes_61 rfl (hQ _ _ ⟨rfl, by rw [← hR]; rfl⟩)
    | succ j ih =>
      intro i S1 hj h1 hn1 hR
      have hw := PV_w h1 (show i < 12 by omega)
      refine V_iload_n dX5_makes_2 rfl ?_
      refine V_aload_n dX5_makes_3 rfl ?_
      refine Vm_getI 21 dX5_makes_4 q1185 (by decide) ?_
      refine V_topi hn1 ?_
      refine V_icmp_ge (tgt := 61) dX5_makes_7 (by decide) (fun c7 => absurd c7 (nI_ge (by omega) (by omega))) (fun _ => ?_)
      refine V_aload_n dX5_makes_10 rfl ?_
      refine Vm_getA 8 dX5_makes_11 q1172 (by decide) ?_
      refine V_iload_n dX5_makes_14 rfl ?_
      refine Vm_iald dX5_makes_15 (by first | rfl | assumption) (by show _ < 12; omega) (by decide) ?_
      refine V_iload_n dX5_makes_16 rfl ?_
      refine V_icmp_ne (tgt := 55) dX5_makes_17 (by decide) (fun c17 => ?_) (fun c17 => ?_)
      · refine V_iinc dX5_makes_55 rfl (iinc_1 _) rfl (Nat.le_of_ble_eq_true rfl) ?_
        refine V_goto (tgt := 2) dX5_makes_58 (by decide) ?_
        have hf := mkF_fr day i S1
        exact V_mW (S2 := (mkF day) i S1) (by unfold mkF; rw [if_neg c17]; try rfl) (ih (i + 1) ((mkF day) i S1) (by omega) (PV_fr hf h1) (by rw [hf 21 (by omega)]; exact hn1) hR)
      · refine V_aload_n dX5_makes_20 rfl ?_
        refine Vm_getA 6 dX5_makes_21 q1170 (by decide) ?_
        refine V_iload_n dX5_makes_24 rfl ?_
        refine Vm_iald dX5_makes_25 (by first | rfl | assumption) (by show _ < 12; omega) (by decide) ?_
        refine V_aload_n dX5_makes_26 rfl ?_
        refine Vm_getI 2 dX5_makes_27 q1166 (by decide) ?_
        refine V_icmp_ge (tgt := 55) dX5_makes_30 (by decide) (fun c30 => ?_) (fun c30 => ?_)
        · refine V_iinc dX5_makes_55 rfl (iinc_1 _) rfl (Nat.le_of_ble_eq_true rfl) ?_
          refine V_goto (tgt := 2) dX5_makes_58 (by decide) ?_
          have hf := mkF_fr day i S1
          exact V_mW (S2 := (mkF day) i S1) (by unfold mkF; rw [if_pos c17, if_pos c30]; try rfl) (ih (i + 1) ((mkF day) i S1) (by omega) (PV_fr hf h1) (by rw [hf 21 (by omega)]; exact hn1) hR)
        · refine V_aload_n dX5_makes_33 rfl ?_
          refine Vm_getA 29 dX5_makes_34 q1193 (by decide) ?_
          refine V_iload_n dX5_makes_37 rfl ?_
          refine V_iconst dX5_makes_38 li_1 ?_
          refine Vm_iast dX5_makes_39 (by first | rfl | assumption) (by show _ < 12; omega) (by decide) ?_
          refine V_aload_n dX5_makes_40 rfl ?_
          refine V_aload_n dX5_makes_41 rfl ?_
          refine Vm_getA 6 dX5_makes_42 q1170 (by decide) ?_
          refine V_iload_n dX5_makes_45 rfl ?_
          refine Vm_iald dX5_makes_46 (by first | rfl | assumption) (by show _ < 12; omega) (by decide) ?_
          refine V_topi hw.1 ?_
          refine V_aload_n dX5_makes_47 rfl ?_
          refine V_iload_n dX5_makes_48 rfl ?_
          refine Vm_callIF (m_lengthOf l _ i (wN S1 i) (by omega) hw.2 hw.1) dX5_makes_49 (lw_V q1433 q1435 qs60 q103 q1436) hv_X5_lengthOf (by decide) rfl (Nat.le_of_ble_eq_true rfl) ?_
          refine Vm_callVF (m_changes l _ (wN S1 i) _ hw.2) dX5_makes_52 (lw_V q1437 q1439 qs61 q103 q1440) hv_X5_changes (by decide) rfl (Nat.le_of_ble_eq_true rfl) ?_
          refine V_iinc dX5_makes_55 rfl (iinc_1 _) rfl (Nat.le_of_ble_eq_true rfl) ?_
          refine V_goto (tgt := 2) dX5_makes_58 (by decide) ?_
          have hf := mkF_fr day i S1
          exact V_mW (S2 := (mkF day) i S1) (by unfold mkF; rw [if_pos c17, if_neg c30]; try rfl) (ih (i + 1) ((mkF day) i S1) (by omega) (PV_fr hf h1) (by rw [hf 21 (by omega)]; exact hn1) hR)
  refine V_iconst dX5_makes_0 li_0 ?_
  refine V_istore_n dX5_makes_1 rfl (Nat.le_of_ble_eq_true rfl) (Nat.le_of_ble_eq_true rfl) ?_
  exact L2 nn 0 S (by omega) hP hn0 (by unfold makesF; rw [hn0, vN_nI (by omega)])
set_option maxHeartbeats 4000000 in
theorem m_isKept (l : Launch) (S : xSt) (p : Nat) (hp : p < 12) (hP : PV S) : Cm l yX5_isKept cX5_isKept 5 none 1 [.int (nI p)] S (fun r S' => r = none ∧ S' = ktS p S) := by
  refine Cm_start (ls := [some (.ref 1000), some (.int (nI p)), none, none, none]) (by decide) rfl (Nat.le_of_ble_eq_true rfl) ?_
  intro Q hQ
  have hw := PV_w hP hp
  refine V_aload_n dX5_isKept_0 rfl ?_
  refine Vm_getA 6 dX5_isKept_1 q1170 (by decide) ?_
  refine V_iload_n dX5_isKept_4 rfl ?_
  refine Vm_iald dX5_isKept_5 (by first | rfl | assumption) (by show _ < 12; omega) (by decide) ?_
  refine V_topi hw.1 ?_
  refine V_istore_n dX5_isKept_6 rfl (Nat.le_of_ble_eq_true rfl) (Nat.le_of_ble_eq_true rfl) ?_
  refine V_aload_n dX5_isKept_7 rfl ?_
  refine Vm_getA 4 dX5_isKept_8 q1168 (by decide) ?_
  refine V_iload_n dX5_isKept_11 rfl ?_
  refine Vm_iald dX5_isKept_12 (by first | rfl | assumption) (by show _ < 9; omega) (by decide) ?_
  refine V_aload_n dX5_isKept_13 rfl ?_
  refine Vm_getA 27 dX5_isKept_14 q1191 (by decide) ?_
  refine V_iload_n dX5_isKept_17 rfl ?_
  refine Vm_iald dX5_isKept_18 (by first | rfl | assumption) (by show _ < 8; omega) (by decide) ?_
  refine V_isub dX5_isKept_19 ?_
  refine V_istore_n dX5_isKept_20 rfl (Nat.le_of_ble_eq_true rfl) (Nat.le_of_ble_eq_true rfl) ?_
  refine V_aload_n dX5_isKept_21 rfl ?_
  refine Vm_getA 7 dX5_isKept_22 q1171 (by decide) ?_
  refine V_iload_n dX5_isKept_25 rfl ?_
  refine Vm_iald dX5_isKept_26 (by first | rfl | assumption) (by show _ < 12; omega) (by decide) ?_
  refine V_istore dX5_isKept_27 rfl (Nat.le_of_ble_eq_true rfl) (Nat.le_of_ble_eq_true rfl) ?_
  refine V_aload_n dX5_isKept_29 rfl ?_
  refine Vm_getA 29 dX5_isKept_30 q1193 (by decide) ?_
  refine V_iload_n dX5_isKept_33 rfl ?_
  refine V_iconst dX5_isKept_34 li_2 ?_
  refine Vm_iast dX5_isKept_35 (by first | rfl | assumption) (by show _ < 12; omega) (by decide) ?_
  refine V_aload_n dX5_isKept_36 rfl ?_
  refine V_iload_n dX5_isKept_37 rfl ?_
  refine V_iload_n dX5_isKept_38 rfl ?_
  refine V_iload dX5_isKept_39 rfl ?_
  refine V_icmp_le (tgt := 49) dX5_isKept_41 (by decide) (fun c41 => ?_) (fun c41 => ?_)
  · refine V_iload_n dX5_isKept_49 rfl ?_
    refine V_iload dX5_isKept_50 rfl ?_
    refine V_ineg dX5_isKept_52 ?_
    refine V_icmp_ge (tgt := 62) dX5_isKept_53 (by decide) (fun c53 => ?_) (fun c53 => ?_)
    · refine V_iload_n dX5_isKept_62 rfl ?_
      refine Vm_callVF (m_changes l _ (wN S p) _ hw.2) dX5_isKept_63 (lw_V q1437 q1439 qs61 q103 q1440) hv_X5_changes (by decide) rfl (Nat.le_of_ble_eq_true rfl) ?_
      exact V_vreturn dX5_isKept_66 rfl (hQ _ _ ⟨rfl, by unfold ktS ktX; rw [if_pos c41, if_pos c53]; try rfl⟩)
    · refine V_iload dX5_isKept_56 rfl ?_
      refine V_ineg dX5_isKept_58 ?_
      refine V_goto (tgt := 63) dX5_isKept_59 (by decide) ?_
      refine Vm_callVF (m_changes l _ (wN S p) _ hw.2) dX5_isKept_63 (lw_V q1437 q1439 qs61 q103 q1440) hv_X5_changes (by decide) rfl (Nat.le_of_ble_eq_true rfl) ?_
      exact V_vreturn dX5_isKept_66 rfl (hQ _ _ ⟨rfl, by unfold ktS ktX; rw [if_pos c41, if_neg c53]; try rfl⟩)
  · refine V_iload dX5_isKept_44 rfl ?_
    refine V_goto (tgt := 63) dX5_isKept_46 (by decide) ?_
    refine Vm_callVF (m_changes l _ (wN S p) _ hw.2) dX5_isKept_63 (lw_V q1437 q1439 qs61 q103 q1440) hv_X5_changes (by decide) rfl (Nat.le_of_ble_eq_true rfl) ?_
    exact V_vreturn dX5_isKept_66 rfl (hQ _ _ ⟨rfl, by unfold ktS ktX; rw [if_neg c41]; try rfl⟩)
set_option maxHeartbeats 4000000 in
theorem m_keepsOn (l : Launch) (S : xSt) (day : Int32) (hP : PV S) : Cm l yX5_keepsOn cX5_keepsOn 4 none 3 [.int day] S (fun r S' => r = none ∧ S' = keepsF day S) := by
  refine Cm_start (ls := [some (.ref 1000), some (.int day), none, none]) (by decide) rfl (Nat.le_of_ble_eq_true rfl) ?_
  intro Q hQ
  obtain ⟨nn, hnn, hn0⟩ := hP.2.2.2.1
  have L2 : ∀ (j : Nat) (i : Nat) (S1 : xSt) (hj : i + j = nn) (h1 : PV S1) (hn1 : S1 22 0 = nI nn) (hR : itF (kpF day) j i S1 = keepsF day S), V l (yX5_keepsOn.cls, cX5_keepsOn, 4, none, [], yX5_keepsOn.name) (rmD 3 0 0, xF0, Q, xX0) 2 [some (.ref 1000), some (.int day), some (.int (nI i)), none] [] (mW S1) 0 0 := by
    intro j
    induction j with
    | zero =>
      intro i S1 hj h1 hn1 hR
      refine V_iload_n dX5_keepsOn_2 rfl ?_
      refine V_aload_n dX5_keepsOn_3 rfl ?_
      refine Vm_getI 22 dX5_keepsOn_4 q1186 (by decide) ?_
      refine V_topi hn1 ?_
      refine V_icmp_ge (tgt := 67) dX5_keepsOn_7 (by decide) (fun _ => ?_) (fun c7 => absurd (nI_le (by omega) (by omega)) c7)
      exact V_vreturn dX5_keepsOn_67 rfl (hQ _ _ ⟨rfl, by rw [← hR]; rfl⟩)
    | succ j ih =>
      intro i S1 hj h1 hn1 hR
      have ho := bd_v (h1.2.2.2.2.2.1 i (by omega)) (by decide)
      have ho2 := ho.2
      refine V_iload_n dX5_keepsOn_2 rfl ?_
      refine V_aload_n dX5_keepsOn_3 rfl ?_
      refine Vm_getI 22 dX5_keepsOn_4 q1186 (by decide) ?_
      refine V_topi hn1 ?_
      refine V_icmp_ge (tgt := 67) dX5_keepsOn_7 (by decide) (fun c7 => absurd c7 (nI_ge (by omega) (by omega))) (fun _ => ?_)
      refine V_aload_n dX5_keepsOn_10 rfl ?_
      refine Vm_getA 24 dX5_keepsOn_11 q1188 (by decide) ?_
      refine V_iload_n dX5_keepsOn_14 rfl ?_
      refine Vm_iald dX5_keepsOn_15 (by first | rfl | assumption) (by show _ < 9; omega) (by decide) ?_
      refine V_topi ho.1 ?_
      refine V_istore_n dX5_keepsOn_16 rfl (Nat.le_of_ble_eq_true rfl) (Nat.le_of_ble_eq_true rfl) ?_
      refine V_aload_n dX5_keepsOn_17 rfl ?_
      refine Vm_getA 23 dX5_keepsOn_18 q1187 (by decide) ?_
      refine V_iload_n dX5_keepsOn_21 rfl ?_
      refine Vm_iald dX5_keepsOn_22 (by first | rfl | assumption) (by show _ < 9; omega) (by decide) ?_
      refine V_iload_n dX5_keepsOn_23 rfl ?_
      refine V_icmp_ne (tgt := 61) dX5_keepsOn_24 (by decide) (fun c24 => ?_) (fun c24 => ?_)
      · refine V_iinc dX5_keepsOn_61 rfl (iinc_1 _) rfl (Nat.le_of_ble_eq_true rfl) ?_
        refine V_goto (tgt := 2) dX5_keepsOn_64 (by decide) ?_
        have hf := kpF_fr day i S1
        refine V_forget 3 ?_
        exact V_mW (S2 := (kpF day) i S1) (by unfold kpF; rw [if_neg c24]; try rfl) (ih (i + 1) ((kpF day) i S1) (by omega) (PV_fr hf h1) (by rw [hf 22 (by omega)]; exact hn1) hR)
      · refine V_aload_n dX5_keepsOn_27 rfl ?_
        refine Vm_getI 25 dX5_keepsOn_28 q1189 (by decide) ?_
        refine V_iload_n dX5_keepsOn_31 rfl ?_
        refine Vs_callIF (m_isIn l _ _) dX5_keepsOn_32 (lw_S q1445 q1446 q103 q1447) hs_X5_isIn (by decide) rfl (Nat.le_of_ble_eq_true rfl) ?_
        refine V_if_neB (tgt := 61) dX5_keepsOn_35 (by decide) (fun c35 => ?_) (fun c35 => ?_)
        · refine V_iinc dX5_keepsOn_61 rfl (iinc_1 _) rfl (Nat.le_of_ble_eq_true rfl) ?_
          refine V_goto (tgt := 2) dX5_keepsOn_64 (by decide) ?_
          have hf := kpF_fr day i S1
          refine V_forget 3 ?_
          exact V_mW (S2 := (kpF day) i S1) (by unfold kpF; rw [if_pos c24, if_pos c35]; try rfl) (ih (i + 1) ((kpF day) i S1) (by omega) (PV_fr hf h1) (by rw [hf 22 (by omega)]; exact hn1) hR)
        · refine V_iload_n dX5_keepsOn_38 rfl ?_
          refine V_aload_n dX5_keepsOn_39 rfl ?_
          refine Vm_getI 5 dX5_keepsOn_40 q1169 (by decide) ?_
          refine V_icmp_ge (tgt := 61) dX5_keepsOn_43 (by decide) (fun c43 => ?_) (fun c43 => ?_)
          · refine V_iinc dX5_keepsOn_61 rfl (iinc_1 _) rfl (Nat.le_of_ble_eq_true rfl) ?_
            refine V_goto (tgt := 2) dX5_keepsOn_64 (by decide) ?_
            have hf := kpF_fr day i S1
            refine V_forget 3 ?_
            exact V_mW (S2 := (kpF day) i S1) (by unfold kpF; rw [if_pos c24, if_neg c35, if_pos c43]; try rfl) (ih (i + 1) ((kpF day) i S1) (by omega) (PV_fr hf h1) (by rw [hf 22 (by omega)]; exact hn1) hR)
          · refine V_aload_n dX5_keepsOn_46 rfl ?_
            refine Vm_getA 29 dX5_keepsOn_47 q1193 (by decide) ?_
            refine V_iload_n dX5_keepsOn_50 rfl ?_
            refine Vm_iald dX5_keepsOn_51 (by first | rfl | assumption) (by show _ < 12; omega) (by decide) ?_
            refine V_iconst dX5_keepsOn_52 li_1 ?_
            refine V_icmp_ne (tgt := 61) dX5_keepsOn_53 (by decide) (fun c53 => ?_) (fun c53 => ?_)
            · refine V_iinc dX5_keepsOn_61 rfl (iinc_1 _) rfl (Nat.le_of_ble_eq_true rfl) ?_
              refine V_goto (tgt := 2) dX5_keepsOn_64 (by decide) ?_
              have hf := kpF_fr day i S1
              refine V_forget 3 ?_
              exact V_mW (S2 := (kpF day) i S1) (by unfold kpF; rw [if_pos c24, if_neg c35, if_neg c43, if_neg c53]; try rfl) (ih (i + 1) ((kpF day) i S1) (by omega) (PV_fr hf h1) (by rw [hf 22 (by omega)]; exact hn1) hR)
            · refine V_aload_n dX5_keepsOn_56 rfl ?_
              refine V_iload_n dX5_keepsOn_57 rfl ?_
              refine Vm_callVF (m_isKept l _ (vN (S1 24 i)) (by omega) h1) dX5_keepsOn_58 (lw_V q1448 q1450 qs63 q103 q1451) hv_X5_isKept (by decide) rfl (Nat.le_of_ble_eq_true rfl) ?_
              refine V_iinc dX5_keepsOn_61 rfl (iinc_1 _) rfl (Nat.le_of_ble_eq_true rfl) ?_
              refine V_goto (tgt := 2) dX5_keepsOn_64 (by decide) ?_
              have hf := kpF_fr day i S1
              refine V_forget 3 ?_
              exact V_mW (S2 := (kpF day) i S1) (by unfold kpF; rw [if_pos c24, if_neg c35, if_neg c43, if_pos c53]; try rfl) (ih (i + 1) ((kpF day) i S1) (by omega) (PV_fr hf h1) (by rw [hf 22 (by omega)]; exact hn1) hR)
  refine V_iconst dX5_keepsOn_0 li_0 ?_
  refine V_istore_n dX5_keepsOn_1 rfl (Nat.le_of_ble_eq_true rfl) (Nat.le_of_ble_eq_true rfl) ?_
  exact L2 nn 0 S (by omega) hP hn0 (by unfold keepsF; rw [hn0, vN_nI (by omega)])
set_option maxHeartbeats 4000000 in
theorem m_breaks (l : Launch) (S : xSt) (day : Int32) (hP : PV S) : Cm l yX5_breaks cX5_breaks 4 none 3 [.int day] S (fun r S' => r = none ∧ S' = breaksF day S) := by
  refine Cm_start (ls := [some (.ref 1000), some (.int day), none, none]) (by decide) rfl (Nat.le_of_ble_eq_true rfl) ?_
  intro Q hQ
  obtain ⟨nn, hnn, hn0⟩ := hP.2.2.1
  have L2 : ∀ (j : Nat) (i : Nat) (S1 : xSt) (hj : i + j = nn) (h1 : PV S1) (hn1 : S1 21 0 = nI nn) (hR : itF (brF day) j i S1 = breaksF day S), V l (yX5_breaks.cls, cX5_breaks, 4, none, [], yX5_breaks.name) (rmD 3 0 0, xF0, Q, xX0) 2 [some (.ref 1000), some (.int day), some (.int (nI i)), none] [] (mW S1) 0 0 := by
    intro j
    induction j with
    | zero =>
      intro i S1 hj h1 hn1 hR
      refine V_iload_n dX5_breaks_2 rfl ?_
      refine V_aload_n dX5_breaks_3 rfl ?_
      refine Vm_getI 21 dX5_breaks_4 q1185 (by decide) ?_
      refine V_topi hn1 ?_
      refine V_icmp_ge (tgt := 87) dX5_breaks_7 (by decide) (fun _ => ?_) (fun c7 => absurd (nI_le (by omega) (by omega)) c7)
      exact V_vreturn dX5_breaks_87 rfl (hQ _ _ ⟨rfl, by rw [← hR]; rfl⟩)
    | succ j ih =>
      intro i S1 hj h1 hn1 hR
      have hw := PV_w h1 (show i < 12 by omega)
      refine V_iload_n dX5_breaks_2 rfl ?_
      refine V_aload_n dX5_breaks_3 rfl ?_
      refine Vm_getI 21 dX5_breaks_4 q1185 (by decide) ?_
      refine V_topi hn1 ?_
      refine V_icmp_ge (tgt := 87) dX5_breaks_7 (by decide) (fun c7 => absurd c7 (nI_ge (by omega) (by omega))) (fun _ => ?_)
      refine V_aload_n dX5_breaks_10 rfl ?_
      refine Vm_getA 9 dX5_breaks_11 q1173 (by decide) ?_
      refine V_iload_n dX5_breaks_14 rfl ?_
      refine Vm_iald dX5_breaks_15 (by first | rfl | assumption) (by show _ < 12; omega) (by decide) ?_
      refine V_iload_n dX5_breaks_16 rfl ?_
      refine V_icmp_ne (tgt := 81) dX5_breaks_17 (by decide) (fun c17 => ?_) (fun c17 => ?_)
      · refine V_iinc dX5_breaks_81 rfl (iinc_1 _) rfl (Nat.le_of_ble_eq_true rfl) ?_
        refine V_goto (tgt := 2) dX5_breaks_84 (by decide) ?_
        have hf := brF_fr day i S1
        refine V_forget 3 ?_
        exact V_mW (S2 := (brF day) i S1) (by unfold brF brS brT brX; rw [if_neg c17]; try rfl) (ih (i + 1) ((brF day) i S1) (by omega) (PV_fr hf h1) (by rw [hf 21 (by omega)]; exact hn1) hR)
      · refine V_aload_n dX5_breaks_20 rfl ?_
        refine Vm_getA 29 dX5_breaks_21 q1193 (by decide) ?_
        refine V_iload_n dX5_breaks_24 rfl ?_
        refine Vm_iald dX5_breaks_25 (by first | rfl | assumption) (by show _ < 12; omega) (by decide) ?_
        refine V_iconst dX5_breaks_26 li_1 ?_
        refine V_icmp_ne (tgt := 81) dX5_breaks_27 (by decide) (fun c27 => ?_) (fun c27 => ?_)
        · refine V_iinc dX5_breaks_81 rfl (iinc_1 _) rfl (Nat.le_of_ble_eq_true rfl) ?_
          refine V_goto (tgt := 2) dX5_breaks_84 (by decide) ?_
          have hf := brF_fr day i S1
          refine V_forget 3 ?_
          exact V_mW (S2 := (brF day) i S1) (by unfold brF brS brT brX; rw [if_pos c17, if_neg c27]; try rfl) (ih (i + 1) ((brF day) i S1) (by omega) (PV_fr hf h1) (by rw [hf 21 (by omega)]; exact hn1) hR)
        · refine V_aload_n dX5_breaks_30 rfl ?_
          refine Vm_getA 6 dX5_breaks_31 q1170 (by decide) ?_
          refine V_iload_n dX5_breaks_34 rfl ?_
          refine Vm_iald dX5_breaks_35 (by first | rfl | assumption) (by show _ < 12; omega) (by decide) ?_
          refine V_topi hw.1 ?_
          refine V_istore_n dX5_breaks_36 rfl (Nat.le_of_ble_eq_true rfl) (Nat.le_of_ble_eq_true rfl) ?_
          refine V_aload_n dX5_breaks_37 rfl ?_
          refine Vm_getA 29 dX5_breaks_38 q1193 (by decide) ?_
          refine V_iload_n dX5_breaks_41 rfl ?_
          refine V_iconst dX5_breaks_42 li_3 ?_
          refine Vm_iast dX5_breaks_43 (by first | rfl | assumption) (by show _ < 12; omega) (by decide) ?_
          refine V_aload_n dX5_breaks_44 rfl ?_
          refine V_iload_n dX5_breaks_45 rfl ?_
          refine V_aload_n dX5_breaks_46 rfl ?_
          refine V_iload_n dX5_breaks_47 rfl ?_
          refine Vm_callIF (m_lengthOf l _ i (wN S1 i) (by omega) hw.2 hw.1) dX5_breaks_48 (lw_V q1433 q1435 qs60 q103 q1436) hv_X5_lengthOf (by decide) rfl (Nat.le_of_ble_eq_true rfl) ?_
          refine V_ineg dX5_breaks_51 ?_
          refine V_aload_n dX5_breaks_52 rfl ?_
          refine Vm_getA 3 dX5_breaks_53 q1167 (by decide) ?_
          refine V_iload_n dX5_breaks_56 rfl ?_
          refine Vm_iald dX5_breaks_57 rfl (by have := hw.2; show _ < 9; omega) (by decide) ?_
          refine V_iconst dX5_breaks_58 li_2 ?_
          refine V_icmp_ne (tgt := 66) dX5_breaks_59 (by decide) (fun c59 => ?_) (fun c59 => ?_)
          · rw [mwr_r S1 i (wN S1 i) (nI 3) (show 3 ≠ 29 by decide)] at c59
            refine V_iconst dX5_breaks_66 li_0 ?_
            refine V_isub dX5_breaks_67 ?_
            refine Vm_callVF (m_changes l _ (wN S1 i) _ hw.2) dX5_breaks_68 (lw_V q1437 q1439 qs61 q103 q1440) hv_X5_changes (by decide) rfl (Nat.le_of_ble_eq_true rfl) ?_
            refine V_aload_n dX5_breaks_71 rfl ?_
            refine Vm_getA 28 dX5_breaks_72 q1192 (by decide) ?_
            refine V_iload_n dX5_breaks_75 rfl ?_
            refine V_dup2 dX5_breaks_76 rfl rfl ?_
            refine Vm_iald dX5_breaks_77 rfl (by have := hw.2; show _ < 8; omega) (by decide) ?_
            refine V_iconst dX5_breaks_78 li_1 ?_
            refine V_iadd dX5_breaks_79 ?_
            refine Vm_iast dX5_breaks_80 rfl (by have := hw.2; show _ < 8; omega) (by decide) ?_
            refine V_iinc dX5_breaks_81 rfl (iinc_1 _) rfl (Nat.le_of_ble_eq_true rfl) ?_
            refine V_goto (tgt := 2) dX5_breaks_84 (by decide) ?_
            have hf := brF_fr day i S1
            refine V_forget 3 ?_
            exact V_mW (S2 := (brF day) i S1) (by unfold brF brS brT brX; rw [if_pos c17, if_pos c27, if_neg c59]; try rfl) (ih (i + 1) ((brF day) i S1) (by omega) (PV_fr hf h1) (by rw [hf 21 (by omega)]; exact hn1) hR)
          · rw [mwr_r S1 i (wN S1 i) (nI 3) (show 3 ≠ 29 by decide)] at c59
            refine V_iconst dX5_breaks_62 li_2 ?_
            refine V_goto (tgt := 67) dX5_breaks_63 (by decide) ?_
            refine V_isub dX5_breaks_67 ?_
            refine Vm_callVF (m_changes l _ (wN S1 i) _ hw.2) dX5_breaks_68 (lw_V q1437 q1439 qs61 q103 q1440) hv_X5_changes (by decide) rfl (Nat.le_of_ble_eq_true rfl) ?_
            refine V_aload_n dX5_breaks_71 rfl ?_
            refine Vm_getA 28 dX5_breaks_72 q1192 (by decide) ?_
            refine V_iload_n dX5_breaks_75 rfl ?_
            refine V_dup2 dX5_breaks_76 rfl rfl ?_
            refine Vm_iald dX5_breaks_77 rfl (by have := hw.2; show _ < 8; omega) (by decide) ?_
            refine V_iconst dX5_breaks_78 li_1 ?_
            refine V_iadd dX5_breaks_79 ?_
            refine Vm_iast dX5_breaks_80 rfl (by have := hw.2; show _ < 8; omega) (by decide) ?_
            refine V_iinc dX5_breaks_81 rfl (iinc_1 _) rfl (Nat.le_of_ble_eq_true rfl) ?_
            refine V_goto (tgt := 2) dX5_breaks_84 (by decide) ?_
            have hf := brF_fr day i S1
            refine V_forget 3 ?_
            exact V_mW (S2 := (brF day) i S1) (by unfold brF brS brT brX; rw [if_pos c17, if_pos c27, if_pos c59]; try rfl) (ih (i + 1) ((brF day) i S1) (by omega) (PV_fr hf h1) (by rw [hf 21 (by omega)]; exact hn1) hR)
  refine V_iconst dX5_breaks_0 li_0 ?_
  refine V_istore_n dX5_breaks_1 rfl (Nat.le_of_ble_eq_true rfl) (Nat.le_of_ble_eq_true rfl) ?_
  exact L2 nn 0 S (by omega) hP hn0 (by unfold breaksF; rw [hn0, vN_nI (by omega)])
def lyF (day : Int32) (i : Nat) (S : xSt) : xSt := if S 14 i = day then (if S 2 0 ≤ S 15 i then S else if isI (S 26 0) (nI i) then S else cutS (vN (S 15 i)) (-(S 16 i)) S) else S
def ltF (day : Int32) (i : Nat) (S : xSt) : xSt := if S 18 i = day then (if S 2 0 ≤ S 19 i then S else cutS (vN (S 19 i)) (S 20 i) S) else S
def rcF (d i : Nat) (S : xSt) : xSt := mwr (mwr S 30 (8 * d + i) (S 27 i)) 31 (8 * d + i) (S 28 i)
def rsF (d i : Nat) (S : xSt) : xSt := mwr S 32 (12 * d + i) (S 29 i)
def liesF (day : Int32) (S : xSt) : xSt := itF (lyF day) (vN (S 13 0)) 0 S
def letsF (day : Int32) (S : xSt) : xSt := itF (ltF day) (vN (S 17 0)) 0 S
def recsF (d : Nat) (S : xSt) : xSt := itF (rcF d) (vN (S 2 0)) 0 S
def ressF (d : Nat) (S : xSt) : xSt := itF (rsF d) (vN (S 21 0)) 0 S
theorem lyF_fr (day : Int32) (p : Nat) (S : xSt) : fr S (lyF day p S) := by
  unfold lyF
  split
  · split
    · exact fr_rf S
    · split
      · exact fr_rf S
      · exact fr_cut (fr_rf S) _ _
  · exact fr_rf S
theorem ltF_fr (day : Int32) (p : Nat) (S : xSt) : fr S (ltF day p S) := by
  unfold ltF
  split
  · split
    · exact fr_rf S
    · exact fr_cut (fr_rf S) _ _
  · exact fr_rf S
theorem rcF_fr (d i : Nat) (S : xSt) : fr S (rcF d i S) := fr_mwr (fr_mwr (fr_rf S) (by omega) _ _) (by omega) _ _
theorem rsF_fr (d i : Nat) (S : xSt) : fr S (rsF d i S) := fr_mwr (fr_rf S) (by omega) _ _
def goesF (d : Nat) (S : xSt) : xSt := ressF d (recsF d (letsF (nI d) (liesF (nI d) (breaksF (nI d) (keepsF (nI d) (makesF (nI d) S))))))
theorem goesF_fr (d : Nat) (S : xSt) : fr S (goesF d S) := fr_tr (fr_tr (fr_tr (fr_tr (fr_tr (fr_tr (makesF_fr _ S) (keepsF_fr _ _)) (breaksF_fr _ _)) (fr_it (lyF_fr _) _ _ _)) (fr_it (ltF_fr _) _ _ _)) (fr_it (rcF_fr d) _ _ _)) (fr_it (rsF_fr d) _ _ _)
def st1F (k : Nat) (S : xSt) : xSt := mwr (mwr S 27 k (S 4 k)) 28 k (nI 0)
def st2F (p : Nat) (S : xSt) : xSt := mwr S 29 p (nI 0)
theorem st1F_fr (i : Nat) (S : xSt) : fr S (st1F i S) := fr_mwr (fr_mwr (fr_rf S) (by omega) _ _) (by omega) _ _
theorem st2F_fr (i : Nat) (S : xSt) : fr S (st2F i S) := fr_mwr (fr_rf S) (by omega) _ _
def st1sF (S : xSt) : xSt := itF st1F (vN (S 2 0)) 0 S
def st2sF (S : xSt) : xSt := itF st2F (vN (S 21 0)) 0 S
def daysF (S : xSt) : xSt := itF goesF 24 0 S
def runsF (S : xSt) : xSt := daysF (st2sF (st1sF S))
theorem runsF_fr (S : xSt) : fr S (runsF S) := fr_tr (fr_tr (fr_it st1F_fr _ _ _) (fr_it st2F_fr _ _ _)) (fr_it goesF_fr _ _ _)

