/-! the model: plans -/
set_option maxRecDepth 100000
/-- what the runs of a plan leave alone -/
def co2 (S S' : xSt) : Prop := ∀ r, r < 3 ∨ r = 5 ∨ (9 < r ∧ r < 21) ∨ (33 < r ∧ r ≠ 38 ∧ r ≠ 43) → S' r = S r
def SV (S : xSt) : Prop := bd (S 34 0) 8 ∧ (∀ i, i < 8 → bd (S 35 i) 23) ∧ ∀ i, i < 8 → bd (S 36 i) 7
def LI (S0 S1 : xSt) : Prop := PV S1 ∧ SV S1 ∧ co2 S0 S1
theorem MI_SV {S : xSt} (h : MI S) : SV S := ⟨h.2.2.2.2.2.2.2.2.2.1, h.2.2.2.2.2.2.2.2.2.2.1, h.2.2.2.2.2.2.2.2.2.2.2.1⟩
theorem LI_0 {S : xSt} (h : MI S) : LI (asToldF S) (asToldF S) := ⟨PV_asTold h, MI_SV (MI_asTold h), fun _ _ => rfl⟩
theorem SV_eq {S S' : xSt} (h : S' 34 = S 34 ∧ S' 35 = S 35 ∧ S' 36 = S 36) (hS : SV S) : SV S' := by
  unfold SV at *
  rw [h.1, h.2.1, h.2.2]
  exact hS
theorem LI_run {S0 S1 : xSt} (h : LI S0 S1) : LI S0 (runsF S1) :=
  ⟨PV_fr (runsF_fr _) h.1, SV_eq ⟨runsF_fr S1 34 (by omega), runsF_fr S1 35 (by omega), runsF_fr S1 36 (by omega)⟩ h.2.1, fun r hr => (runsF_fr S1 r (by omega)).trans (h.2.2 r hr)⟩
theorem SV_wr {S : xSt} {j i : Nat} {v : Int32} (h : j < 34 ∨ j = 38) (hS : SV S) : SV (mwr S j i v) := SV_eq ⟨mwr_R _ _ _ (by omega), mwr_R _ _ _ (by omega), mwr_R _ _ _ (by omega)⟩ hS
theorem PV_wr {S : xSt} {j i : Nat} {v : Int32} (h : j = 3 ∨ j = 4 ∨ (6 < j ∧ j < 13) ∨ j = 23 ∨ 24 < j) (hS : PV S) : PV (mwr S j i v) := by
  unfold PV at *
  rw [mwr_R _ _ _ (show 2 ≠ j by omega), mwr_R _ _ _ (show 5 ≠ j by omega), mwr_R _ _ _ (show 21 ≠ j by omega), mwr_R _ _ _ (show 22 ≠ j by omega), mwr_R _ _ _ (show 6 ≠ j by omega), mwr_R _ _ _ (show 24 ≠ j by omega), mwr_R _ _ _ (show 13 ≠ j by omega), mwr_R _ _ _ (show 15 ≠ j by omega), mwr_R _ _ _ (show 17 ≠ j by omega), mwr_R _ _ _ (show 19 ≠ j by omega)]
  exact hS
theorem bdw {S : xSt} {j i n m : Nat} {v : Int32} (h : ∀ q, q < n → bd (S j q) m) (hv : bd v m) : ∀ q, q < n → bd (mwr S j i v j q) m := by
  intro q hq
  by_cases e : q = i
  · rw [e, mwr_s]; exact hv
  · rw [mwr_q _ _ _ _ e]; exact h q hq
theorem PV_w24 {S : xSt} {i : Nat} {v : Int32} (hv : bd v 9) (hS : PV S) : PV (mwr S 24 i v) := by
  unfold PV at *
  rw [mwr_R _ _ _ (show 2 ≠ 24 by omega), mwr_R _ _ _ (show 5 ≠ 24 by omega), mwr_R _ _ _ (show 21 ≠ 24 by omega), mwr_R _ _ _ (show 22 ≠ 24 by omega), mwr_R _ _ _ (show 6 ≠ 24 by omega), mwr_R _ _ _ (show 13 ≠ 24 by omega), mwr_R _ _ _ (show 15 ≠ 24 by omega), mwr_R _ _ _ (show 17 ≠ 24 by omega), mwr_R _ _ _ (show 19 ≠ 24 by omega)]
  exact ⟨hS.1, hS.2.1, hS.2.2.1, hS.2.2.2.1, hS.2.2.2.2.1, bdw hS.2.2.2.2.2.1 hv, hS.2.2.2.2.2.2⟩
theorem PV_w6 {S : xSt} {i : Nat} {v : Int32} (hv : bd v 7) (hS : PV S) : PV (mwr S 6 i v) := by
  unfold PV at *
  rw [mwr_R _ _ _ (show 2 ≠ 6 by omega), mwr_R _ _ _ (show 5 ≠ 6 by omega), mwr_R _ _ _ (show 21 ≠ 6 by omega), mwr_R _ _ _ (show 22 ≠ 6 by omega), mwr_R _ _ _ (show 24 ≠ 6 by omega), mwr_R _ _ _ (show 13 ≠ 6 by omega), mwr_R _ _ _ (show 15 ≠ 6 by omega), mwr_R _ _ _ (show 17 ≠ 6 by omega), mwr_R _ _ _ (show 19 ≠ 6 by omega)]
  exact ⟨hS.1, hS.2.1, hS.2.2.1, hS.2.2.2.1, bdw hS.2.2.2.2.1 hv, hS.2.2.2.2.2⟩
theorem PV_w21 {S : xSt} {v : Int32} (hv : bd v 11) (hS : PV S) : PV (mwr S 21 0 v) := by
  unfold PV at *
  rw [mwr_R _ _ _ (show 2 ≠ 21 by omega), mwr_R _ _ _ (show 5 ≠ 21 by omega), mwr_R _ _ _ (show 24 ≠ 21 by omega), mwr_R _ _ _ (show 22 ≠ 21 by omega), mwr_R _ _ _ (show 6 ≠ 21 by omega), mwr_R _ _ _ (show 13 ≠ 21 by omega), mwr_R _ _ _ (show 15 ≠ 21 by omega), mwr_R _ _ _ (show 17 ≠ 21 by omega), mwr_R _ _ _ (show 19 ≠ 21 by omega), mwr_s]
  exact ⟨hS.1, hS.2.1, hv, hS.2.2.2⟩
theorem PV_w22 {S : xSt} {v : Int32} (hv : bd v 9) (hS : PV S) : PV (mwr S 22 0 v) := by
  unfold PV at *
  rw [mwr_R _ _ _ (show 2 ≠ 22 by omega), mwr_R _ _ _ (show 5 ≠ 22 by omega), mwr_R _ _ _ (show 24 ≠ 22 by omega), mwr_R _ _ _ (show 21 ≠ 22 by omega), mwr_R _ _ _ (show 6 ≠ 22 by omega), mwr_R _ _ _ (show 13 ≠ 22 by omega), mwr_R _ _ _ (show 15 ≠ 22 by omega), mwr_R _ _ _ (show 17 ≠ 22 by omega), mwr_R _ _ _ (show 19 ≠ 22 by omega), mwr_s]
  exact ⟨hS.1, hS.2.1, hS.2.2.1, hv, hS.2.2.2.2⟩
theorem co2_wr {S0 S : xSt} {j i : Nat} {v : Int32} (h : j = 3 ∨ j = 4 ∨ (5 < j ∧ j < 10) ∨ (20 < j ∧ j < 34) ∨ j = 38 ∨ j = 43) (hS : co2 S0 S) : co2 S0 (mwr S j i v) := fun r hr => (mwr_R _ _ _ (by omega)).trans (hS r hr)
theorem LI_wr {S0 S : xSt} {j i : Nat} {v : Int32} (h : j = 3 ∨ j = 4 ∨ (6 < j ∧ j < 10) ∨ j = 23 ∨ (24 < j ∧ j < 34) ∨ j = 38) (hS : LI S0 S) : LI S0 (mwr S j i v) := ⟨PV_wr (by omega) hS.1, SV_wr (by omega) hS.2.1, co2_wr (by omega) hS.2.2⟩
theorem LI_w6 {S0 S : xSt} {i : Nat} {v : Int32} (hv : bd v 7) (hS : LI S0 S) : LI S0 (mwr S 6 i v) := ⟨PV_w6 hv hS.1, SV_wr (by omega) hS.2.1, co2_wr (by omega) hS.2.2⟩
theorem LI_w24 {S0 S : xSt} {i : Nat} {v : Int32} (hv : bd v 9) (hS : LI S0 S) : LI S0 (mwr S 24 i v) := ⟨PV_w24 hv hS.1, SV_wr (by omega) hS.2.1, co2_wr (by omega) hS.2.2⟩
theorem LI_w21 {S0 S : xSt} {v : Int32} (hv : bd v 11) (hS : LI S0 S) : LI S0 (mwr S 21 0 v) := ⟨PV_w21 hv hS.1, SV_wr (by omega) hS.2.1, co2_wr (by omega) hS.2.2⟩
theorem LI_w22 {S0 S : xSt} {v : Int32} (hv : bd v 9) (hS : LI S0 S) : LI S0 (mwr S 22 0 v) := ⟨PV_w22 hv hS.1, SV_wr (by omega) hS.2.1, co2_wr (by omega) hS.2.2⟩
theorem LI_g {S0 S : xSt} (hS : LI S0 S) {r : Nat} {n : Int32} (h : S0 r 0 = n) (hr : r < 3 ∨ r = 5 ∨ (9 < r ∧ r < 21) ∨ (33 < r ∧ r ≠ 38 ∧ r ≠ 43)) : S r 0 = n := by rw [hS.2.2 r hr]; exact h
theorem LI_p {S0 S : xSt} (hS : LI S0 S) : bd (S 2 0) 8 := hS.1.1
/-- one more promise, and the least that makes the coat fit -/
def swK (m day k : Nat) : Nat → Nat → Int32 → xSt → Int32 × xSt
  | 0, _, a, S => (a, S)
  | j + 1, v, a, S => if a = -1 then swK m day k j (v + 1) (if fitP (runsF (mwr S 7 m (nI v))) day k then nI v else -1) (runsF (mwr S 7 m (nI v))) else (a, S)
theorem swK_s (m day k j v : Nat) (a : Int32) (S : xSt) : swK m day k (j + 1) v a S = if a = -1 then swK m day k j (v + 1) (if fitP (runsF (mwr S 7 m (nI v))) day k then nI v else -1) (runsF (mwr S 7 m (nI v))) else (a, S) := rfl
def swS (m k : Nat) (R : xSt) : xSt := mwr (mwr (mwr (mwr R 21 0 (nI (m + 1))) 6 m (nI k)) 8 m (nI 0)) 9 m (-1)
def swearF (k day : Nat) (R : xSt) : Int32 × xSt := swK (vN (R 5 0)) day k 9 1 (-1) (swS (vN (R 5 0)) k R)
def kbK (q : Nat) : Nat → Nat → Int32 → Int32 → xSt → Int32 × Int32 × xSt
  | 0, _, b, m, S => (b, m, S)
  | j + 1, p, b, m, S => kbK q j (p + 1) (if fitManyF (runsF (mwr S 24 q (nI p))) 23 ≤ m then b else nI p) (if fitManyF (runsF (mwr S 24 q (nI p))) 23 ≤ m then m else fitManyF (runsF (mwr S 24 q (nI p))) 23) (runsF (mwr S 24 q (nI p)))
theorem kbK_s (q j p : Nat) (b m : Int32) (S : xSt) : kbK q (j + 1) p b m S = kbK q j (p + 1) (if fitManyF (runsF (mwr S 24 q (nI p))) 23 ≤ m then b else nI p) (if fitManyF (runsF (mwr S 24 q (nI p))) 23 ≤ m then m else fitManyF (runsF (mwr S 24 q (nI p))) 23) (runsF (mwr S 24 q (nI p))) := rfl
def kbF (d : Nat) (R : xSt) : Int32 × Int32 × xSt := kbK (vN (R 10 0)) (vN (R 5 0)) 0 (-1) (-1) (mwr (mwr R 22 0 (nI (vN (R 10 0) + 1))) 23 (vN (R 10 0)) (nI d))
def duK (p : Nat) : Nat → Nat → Int32 → Int32 → xSt → Int32 × Int32 × xSt
  | 0, _, b, m, S => (b, m, S)
  | j + 1, d, b, m, S => duK p j (d + 1) (if m ≤ tearsF (runsF (mwr S 9 p (nI d))) then b else nI d) (if m ≤ tearsF (runsF (mwr S 9 p (nI d))) then m else tearsF (runsF (mwr S 9 p (nI d)))) (runsF (mwr S 9 p (nI d)))
theorem duK_s (p j d : Nat) (b m : Int32) (S : xSt) : duK p (j + 1) d b m S = duK p j (d + 1) (if m ≤ tearsF (runsF (mwr S 9 p (nI d))) then b else nI d) (if m ≤ tearsF (runsF (mwr S 9 p (nI d))) then m else tearsF (runsF (mwr S 9 p (nI d)))) (runsF (mwr S 9 p (nI d))) := rfl
def duF (p : Nat) (R : xSt) : Int32 × Int32 × xSt := duK p 24 0 (-1) (nI 999) R
def dueF (p : Nat) (what : Int32) (R : xSt) : Int32 × xSt := (if what = 0 then (duF p R).1 else (duF p R).2.1, mwr (duF p R).2.2 9 p (R 9 p))
def keepF (d : Nat) (what : Int32) (R : xSt) : Int32 × xSt := (if what = 0 then (kbF d R).1 else (kbF d R).2.1, (kbF d R).2.2)

set_option maxHeartbeats 4000000 in
theorem m_swearOf (l : Launch) (S : xSt) (k day : Nat) (hk : k < 8) (hd : day < 24) (hS : MI S) : Cm l yX5_swearOf cX5_swearOf 6 (some .int) 8 [.int (nI k), .int (nI day)] S (fun r S' => ∃ x, r = some (.int x) ∧ x = (swearF k day (asToldF S)).1 ∧ S' = (swearF k day (asToldF S)).2) := by
  refine Cm_start (ls := [some (.ref 1000), some (.int (nI k)), some (.int (nI day)), none, none, none]) (by decide) rfl (Nat.le_of_ble_eq_true rfl) ?_
  intro Q hQ
  have hT := m_asTold l S hS
  have hL := LI_0 hS
  obtain ⟨pp, hpp, hp0⟩ := hL.1.1
  obtain ⟨mm, hmm, hm0⟩ := hL.1.2.1
  obtain ⟨qq, hqq, hq0⟩ : bd (asToldF S 10 0) 8 := (MI_asTold hS).2.2.1
  have hvp : vN (asToldF S 2 0) = pp := by rw [hp0]; exact vN_nI (by omega)
  have hvm : vN (asToldF S 5 0) = mm := by rw [hm0]; exact vN_nI (by omega)
  have hvq : vN (asToldF S 10 0) = qq := by rw [hq0]; exact vN_nI (by omega)
  generalize asToldF S = R at hQ hT hL hp0 hm0 hq0 hvp hvm hvq 
  have L46 : ∀ (j : Nat) (v : Nat) (a : Int32) (S1 : xSt) (hj : v + j = 10) (h1 : LI R S1) (hR : swK mm day k j v a S1 = swearF k day R), V l (yX5_swearOf.cls, cX5_swearOf, 6, (some .int), [], yX5_swearOf.name) (rmD 8 0 0, xF0, Q, xX0) 46 [some (.ref 1000), some (.int (nI k)), some (.int (nI day)), some (.int (nI mm)), some (.int a), some (.int (nI v))] [] (mW S1) 0 0 := by
    intro j
    induction j with
    | zero =>
      intro v a S1 hj h1 hR
      refine V_iload dX5_swearOf_46 rfl ?_
      refine V_bipush dX5_swearOf_48 lb_10 ?_
      refine V_icmp_ge (tgt := 94) dX5_swearOf_50 (by decide) (fun _ => ?_) (fun c50 => absurd (nI_le (by omega) (by omega)) c50)
      refine V_iload dX5_swearOf_94 rfl ?_
      exact V_ireturn dX5_swearOf_96 rfl (hQ _ _ ⟨_, rfl, ⟨by rw [← hR]; rfl, by rw [← hR]; rfl⟩⟩)
    | succ j ih =>
      intro v a S1 hj h1 hR
      refine V_iload dX5_swearOf_46 rfl ?_
      refine V_bipush dX5_swearOf_48 lb_10 ?_
      refine V_icmp_ge (tgt := 94) dX5_swearOf_50 (by decide) (fun c50 => absurd c50 (nI_ge (by omega) (by omega))) (fun _ => ?_)
      refine V_iload dX5_swearOf_53 rfl ?_
      refine V_iconst dX5_swearOf_55 li_m1 ?_
      refine V_icmp_ne (tgt := 94) dX5_swearOf_56 (by decide) (fun c56 => ?_) (fun c56 => ?_)
      · refine V_iload dX5_swearOf_94 rfl ?_
        exact V_ireturn dX5_swearOf_96 rfl (hQ _ _ ⟨_, rfl, ⟨by rw [← hR, swK_s, if_neg c56], by rw [← hR, swK_s, if_neg c56]⟩⟩)
      · refine V_aload_n dX5_swearOf_59 rfl ?_
        refine Vm_getA 7 dX5_swearOf_60 q1171 (by decide) ?_
        refine V_iload_n dX5_swearOf_63 rfl ?_
        refine V_iload dX5_swearOf_64 rfl ?_
        refine Vm_iast dX5_swearOf_66 (by first | rfl | assumption) (by show _ < 12; omega) (by decide) ?_
        refine V_aload_n dX5_swearOf_67 rfl ?_
        refine Vm_callVF (m_runs l _ (LI_wr (by omega) h1).1) dX5_swearOf_68 (lw_V q1421 q1423 qs57 q103 q1424) hv_X5_runs (by decide) rfl (Nat.le_of_ble_eq_true rfl) ?_
        refine V_aload_n dX5_swearOf_71 rfl ?_
        refine V_iload_n dX5_swearOf_72 rfl ?_
        refine V_iload_n dX5_swearOf_73 rfl ?_
        refine Vm_callIF (m_fitsOn l _ _ _ (by omega) (by omega)) dX5_swearOf_74 (lw_V q1456 q1458 qs65 q103 q1459) hv_X5_fitsOn (by decide) rfl (Nat.le_of_ble_eq_true rfl) ?_
        refine V_if_eqB (tgt := 85) dX5_swearOf_77 (by decide) (fun c77 => ?_) (fun c77 => ?_)
        · refine V_iconst dX5_swearOf_85 li_m1 ?_
          refine V_istore dX5_swearOf_86 rfl (Nat.le_of_ble_eq_true rfl) (Nat.le_of_ble_eq_true rfl) ?_
          refine V_iinc dX5_swearOf_88 rfl (iinc_1 _) rfl (Nat.le_of_ble_eq_true rfl) ?_
          refine V_goto (tgt := 46) dX5_swearOf_91 (by decide) ?_
          exact ih (v + 1) _ _ (by omega) (LI_run (LI_wr (by omega) h1)) (by rw [← hR, swK_s, if_pos c56, if_neg c77])
        · refine V_iload dX5_swearOf_80 rfl ?_
          refine V_goto (tgt := 86) dX5_swearOf_82 (by decide) ?_
          refine V_istore dX5_swearOf_86 rfl (Nat.le_of_ble_eq_true rfl) (Nat.le_of_ble_eq_true rfl) ?_
          refine V_iinc dX5_swearOf_88 rfl (iinc_1 _) rfl (Nat.le_of_ble_eq_true rfl) ?_
          refine V_goto (tgt := 46) dX5_swearOf_91 (by decide) ?_
          exact ih (v + 1) _ _ (by omega) (LI_run (LI_wr (by omega) h1)) (by rw [← hR, swK_s, if_pos c56, if_pos c77])
  refine V_aload_n dX5_swearOf_0 rfl ?_
  refine Vm_callVF hT dX5_swearOf_1 (lw_V q1417 q1419 qs56 q103 q1420) hv_X5_asTold (by decide) rfl (Nat.le_of_ble_eq_true rfl) ?_
  refine V_aload_n dX5_swearOf_4 rfl ?_
  refine Vm_getI 5 dX5_swearOf_5 q1169 (by decide) ?_
  refine V_topi hm0 ?_
  refine V_istore_n dX5_swearOf_8 rfl (Nat.le_of_ble_eq_true rfl) (Nat.le_of_ble_eq_true rfl) ?_
  refine V_iconst dX5_swearOf_9 li_m1 ?_
  refine V_istore dX5_swearOf_10 rfl (Nat.le_of_ble_eq_true rfl) (Nat.le_of_ble_eq_true rfl) ?_
  refine V_aload_n dX5_swearOf_12 rfl ?_
  refine V_aload_n dX5_swearOf_13 rfl ?_
  refine Vm_getI 5 dX5_swearOf_14 q1169 (by decide) ?_
  refine V_topi (show _ = nI mm from hm0) ?_
  refine V_iconst dX5_swearOf_17 li_1 ?_
  refine V_iaddN dX5_swearOf_18 ?_
  refine Vm_putI 21 dX5_swearOf_19 q1185 (by decide) ?_
  refine V_aload_n dX5_swearOf_22 rfl ?_
  refine Vm_getA 6 dX5_swearOf_23 q1170 (by decide) ?_
  refine V_iload_n dX5_swearOf_26 rfl ?_
  refine V_iload_n dX5_swearOf_27 rfl ?_
  refine Vm_iast dX5_swearOf_28 (by first | rfl | assumption) (by show _ < 12; omega) (by decide) ?_
  refine V_aload_n dX5_swearOf_29 rfl ?_
  refine Vm_getA 8 dX5_swearOf_30 q1172 (by decide) ?_
  refine V_iload_n dX5_swearOf_33 rfl ?_
  refine V_iconst dX5_swearOf_34 li_0 ?_
  refine Vm_iast dX5_swearOf_35 (by first | rfl | assumption) (by show _ < 12; omega) (by decide) ?_
  refine V_aload_n dX5_swearOf_36 rfl ?_
  refine Vm_getA 9 dX5_swearOf_37 q1173 (by decide) ?_
  refine V_iload_n dX5_swearOf_40 rfl ?_
  refine V_iconst dX5_swearOf_41 li_m1 ?_
  refine Vm_iast dX5_swearOf_42 (by first | rfl | assumption) (by show _ < 12; omega) (by decide) ?_
  refine V_iconst dX5_swearOf_43 li_1 ?_
  refine V_istore dX5_swearOf_44 rfl (Nat.le_of_ble_eq_true rfl) (Nat.le_of_ble_eq_true rfl) ?_
  exact L46 9 1 (-1) _ (by omega) (LI_wr (by omega) (LI_wr (by omega) (LI_w6 ⟨k, by omega, rfl⟩ (LI_w21 ⟨mm + 1, by omega, rfl⟩ hL)))) (by unfold swearF swS; rw [hvm])
def swearP (k day : Int32) (S : xSt) : Int32 × xSt := if nI 0 ≤ k ∧ k ≤ readsF S 2 0 - nI 1 then (if nI 0 ≤ day ∧ day ≤ nI 23 then swearF (vN k) (vN day) (asToldF (readsF S)) else (-2, readsF S)) else (-2, readsF S)
set_option maxHeartbeats 4000000 in
theorem m_swear (l : Launch) (S : xSt) (k day : Int32) (hS : MI S) : Cm l yX5_swear cX5_swear 3 (some .int) 9 [.int k, .int day] S (fun r S' => ∃ x, r = some (.int x) ∧ x = (swearP k day S).1 ∧ S' = (swearP k day S).2) := by
  refine Cm_start (ls := [some (.ref 1000), some (.int k), some (.int day)]) (by decide) rfl (Nat.le_of_ble_eq_true rfl) ?_
  intro Q hQ
  have hRp := (RD_p hS).1
  have hMR := MI_reads hS
  have hI := m_isPerson l S k hS.1
  refine V_aload_n dX5_swear_0 rfl ?_
  refine V_iload_n dX5_swear_1 rfl ?_
  refine Vm_callIF hI dX5_swear_2 (lw_V q1347 q1349 qs48 q103 q1350) hv_X5_isPerson (by decide) rfl (Nat.le_of_ble_eq_true rfl) ?_
  refine V_if_eqB (tgt := 24) dX5_swear_5 (by decide) (fun c5 => ?_) (fun c5 => ?_)
  · refine V_bipush dX5_swear_24 lb_m2 ?_
    exact V_ireturn dX5_swear_26 rfl (hQ _ _ ⟨_, rfl, ⟨by unfold swearP; rw [if_neg c5], by unfold swearP; rw [if_neg c5]⟩⟩)
  · obtain ⟨k, rfl, -, hk⟩ := bd_in (n := 8) (by decide) hRp c5
    have hvk : vN (nI k) = k := vN_nI (by omega)
    refine V_iload_n dX5_swear_8 rfl ?_
    refine Vs_callIF (m_isDay l _) dX5_swear_9 (lw_S q1375 q1376 q103 q1377) hs_X5_isDay (by decide) rfl (Nat.le_of_ble_eq_true rfl) ?_
    refine V_if_eqB (tgt := 24) dX5_swear_12 (by decide) (fun c12 => ?_) (fun c12 => ?_)
    · refine V_bipush dX5_swear_24 lb_m2 ?_
      exact V_ireturn dX5_swear_26 rfl (hQ _ _ ⟨_, rfl, ⟨by unfold swearP; rw [if_pos c5, if_neg c12], by unfold swearP; rw [if_pos c5, if_neg c12]⟩⟩)
    · obtain ⟨day, hday, rfl⟩ := bd_I (by decide) c12
      have hvday : vN (nI day) = day := vN_nI (by omega)
      refine V_aload_n dX5_swear_15 rfl ?_
      refine V_iload_n dX5_swear_16 rfl ?_
      refine V_iload_n dX5_swear_17 rfl ?_
      refine Vm_callIF (m_swearOf l _ k day hk (by omega) hMR) dX5_swear_18 (lw_V q1524 q1526 qs75 q103 q1527) hv_X5_swearOf (by decide) rfl (Nat.le_of_ble_eq_true rfl) ?_
      refine V_goto (tgt := 26) dX5_swear_21 (by decide) ?_
      exact V_ireturn dX5_swear_26 rfl (hQ _ _ ⟨_, rfl, ⟨by unfold swearP; rw [if_pos c5, if_pos c12, hvk, hvday], by unfold swearP; rw [if_pos c5, if_pos c12, hvk, hvday]⟩⟩)
set_option maxHeartbeats 4000000 in
theorem m_keepBest (l : Launch) (S : xSt) (day : Nat) (what : Int32) (hd : day < 24) (hS : MI S) : Cm l yX5_keepBest cX5_keepBest 7 (some .int) 8 [.int (nI day), .int what] S (fun r S' => ∃ x, r = some (.int x) ∧ x = (keepF day what (asToldF S)).1 ∧ S' = (keepF day what (asToldF S)).2) := by
  refine Cm_start (ls := [some (.ref 1000), some (.int (nI day)), some (.int what), none, none, none, none]) (by decide) rfl (Nat.le_of_ble_eq_true rfl) ?_
  intro Q hQ
  have hT := m_asTold l S hS
  have hL := LI_0 hS
  obtain ⟨pp, hpp, hp0⟩ := hL.1.1
  obtain ⟨mm, hmm, hm0⟩ := hL.1.2.1
  obtain ⟨qq, hqq, hq0⟩ : bd (asToldF S 10 0) 8 := (MI_asTold hS).2.2.1
  have hvp : vN (asToldF S 2 0) = pp := by rw [hp0]; exact vN_nI (by omega)
  have hvm : vN (asToldF S 5 0) = mm := by rw [hm0]; exact vN_nI (by omega)
  have hvq : vN (asToldF S 10 0) = qq := by rw [hq0]; exact vN_nI (by omega)
  generalize asToldF S = R at hQ hT hL hp0 hm0 hq0 hvp hvm hvq 
  have L32 : ∀ (j : Nat) (p : Nat) (a m : Int32) (S1 : xSt) (hj : p + j = mm) (h1 : LI R S1) (xx : Option Value) (hR : kbK qq j p a m S1 = kbF day R), V l (yX5_keepBest.cls, cX5_keepBest, 7, (some .int), [], yX5_keepBest.name) (rmD 8 0 0, xF0, Q, xX0) 32 [some (.ref 1000), some (.int (nI day)), some (.int what), some (.int a), some (.int m), some (.int (nI p)), xx] [] (mW S1) 0 0 := by
    intro j
    induction j with
    | zero =>
      intro p a m S1 hj h1 xx hR
      refine V_iload dX5_keepBest_32 rfl ?_
      refine V_aload_n dX5_keepBest_34 rfl ?_
      refine Vm_getI 5 dX5_keepBest_35 q1169 (by decide) ?_
      refine V_topi (LI_g h1 hm0 (by omega)) ?_
      refine V_icmp_ge (tgt := 100) dX5_keepBest_38 (by decide) (fun _ => ?_) (fun c38 => absurd (nI_le (by omega) (by omega)) c38)
      refine V_iload_n dX5_keepBest_100 rfl ?_
      refine V_if_ne (tgt := 108) dX5_keepBest_101 (by decide) (fun c101 => ?_) (fun c101 => ?_)
      · refine V_iload dX5_keepBest_108 rfl ?_
        exact V_ireturn dX5_keepBest_110 rfl (hQ _ _ ⟨_, rfl, ⟨by unfold keepF; rw [← hR, if_neg c101]; rfl, by unfold keepF; rw [← hR]; rfl⟩⟩)
      · refine V_iload_n dX5_keepBest_104 rfl ?_
        refine V_goto (tgt := 110) dX5_keepBest_105 (by decide) ?_
        exact V_ireturn dX5_keepBest_110 rfl (hQ _ _ ⟨_, rfl, ⟨by unfold keepF; rw [← hR, if_pos c101]; rfl, by unfold keepF; rw [← hR]; rfl⟩⟩)
    | succ j ih =>
      intro p a m S1 hj h1 xx hR
      refine V_iload dX5_keepBest_32 rfl ?_
      refine V_aload_n dX5_keepBest_34 rfl ?_
      refine Vm_getI 5 dX5_keepBest_35 q1169 (by decide) ?_
      refine V_topi (LI_g h1 hm0 (by omega)) ?_
      refine V_icmp_ge (tgt := 100) dX5_keepBest_38 (by decide) (fun c38 => absurd c38 (nI_ge (by omega) (by omega))) (fun _ => ?_)
      refine V_aload_n dX5_keepBest_41 rfl ?_
      refine Vm_getA 24 dX5_keepBest_42 q1188 (by decide) ?_
      refine V_aload_n dX5_keepBest_45 rfl ?_
      refine Vm_getI 10 dX5_keepBest_46 q1174 (by decide) ?_
      refine V_topi (LI_g h1 hq0 (by omega)) ?_
      refine V_iload dX5_keepBest_49 rfl ?_
      refine Vm_iast dX5_keepBest_51 (by first | rfl | assumption) (by show _ < 9; omega) (by decide) ?_
      refine V_aload_n dX5_keepBest_52 rfl ?_
      refine Vm_callVF (m_runs l _ (LI_w24 ⟨p, by omega, rfl⟩ h1).1) dX5_keepBest_53 (lw_V q1421 q1423 qs57 q103 q1424) hv_X5_runs (by decide) rfl (Nat.le_of_ble_eq_true rfl) ?_
      refine V_aload_n dX5_keepBest_56 rfl ?_
      refine V_bipush dX5_keepBest_57 lb_23 ?_
      refine Vm_callIF (m_fitMany l _ _ (by omega) (LI_p (LI_run (LI_w24 ⟨p, by omega, rfl⟩ h1)))) dX5_keepBest_59 (lw_V q1516 q1518 qs74 q103 q1519) hv_X5_fitMany (by decide) rfl (Nat.le_of_ble_eq_true rfl) ?_
      refine V_istore dX5_keepBest_62 rfl (Nat.le_of_ble_eq_true rfl) (Nat.le_of_ble_eq_true rfl) ?_
      refine V_iload dX5_keepBest_64 rfl ?_
      refine V_iload dX5_keepBest_66 rfl ?_
      refine V_icmp_le (tgt := 76) dX5_keepBest_68 (by decide) (fun c68 => ?_) (fun c68 => ?_)
      · refine V_iload_n dX5_keepBest_76 rfl ?_
        refine V_istore_n dX5_keepBest_77 rfl (Nat.le_of_ble_eq_true rfl) (Nat.le_of_ble_eq_true rfl) ?_
        refine V_iload dX5_keepBest_78 rfl ?_
        refine V_iload dX5_keepBest_80 rfl ?_
        refine V_icmp_le (tgt := 90) dX5_keepBest_82 (by decide) (fun _ => ?_) (fun c82 => absurd c68 c82)
        refine V_iload dX5_keepBest_90 rfl ?_
        refine V_istore dX5_keepBest_92 rfl (Nat.le_of_ble_eq_true rfl) (Nat.le_of_ble_eq_true rfl) ?_
        refine V_iinc dX5_keepBest_94 rfl (iinc_1 _) rfl (Nat.le_of_ble_eq_true rfl) ?_
        refine V_goto (tgt := 32) dX5_keepBest_97 (by decide) ?_
        exact ih (p + 1) _ _ _ (by omega) (LI_run (LI_w24 ⟨p, by omega, rfl⟩ h1)) _ (by rw [← hR, kbK_s, if_pos c68, if_pos c68])
      · refine V_iload dX5_keepBest_71 rfl ?_
        refine V_goto (tgt := 77) dX5_keepBest_73 (by decide) ?_
        refine V_istore_n dX5_keepBest_77 rfl (Nat.le_of_ble_eq_true rfl) (Nat.le_of_ble_eq_true rfl) ?_
        refine V_iload dX5_keepBest_78 rfl ?_
        refine V_iload dX5_keepBest_80 rfl ?_
        refine V_icmp_le (tgt := 90) dX5_keepBest_82 (by decide) (fun c82 => absurd c82 c68) (fun _ => ?_)
        refine V_iload dX5_keepBest_85 rfl ?_
        refine V_goto (tgt := 92) dX5_keepBest_87 (by decide) ?_
        refine V_istore dX5_keepBest_92 rfl (Nat.le_of_ble_eq_true rfl) (Nat.le_of_ble_eq_true rfl) ?_
        refine V_iinc dX5_keepBest_94 rfl (iinc_1 _) rfl (Nat.le_of_ble_eq_true rfl) ?_
        refine V_goto (tgt := 32) dX5_keepBest_97 (by decide) ?_
        exact ih (p + 1) _ _ _ (by omega) (LI_run (LI_w24 ⟨p, by omega, rfl⟩ h1)) _ (by rw [← hR, kbK_s, if_neg c68, if_neg c68])
  refine V_aload_n dX5_keepBest_0 rfl ?_
  refine Vm_callVF hT dX5_keepBest_1 (lw_V q1417 q1419 qs56 q103 q1420) hv_X5_asTold (by decide) rfl (Nat.le_of_ble_eq_true rfl) ?_
  refine V_iconst dX5_keepBest_4 li_m1 ?_
  refine V_istore_n dX5_keepBest_5 rfl (Nat.le_of_ble_eq_true rfl) (Nat.le_of_ble_eq_true rfl) ?_
  refine V_iconst dX5_keepBest_6 li_m1 ?_
  refine V_istore dX5_keepBest_7 rfl (Nat.le_of_ble_eq_true rfl) (Nat.le_of_ble_eq_true rfl) ?_
  refine V_aload_n dX5_keepBest_9 rfl ?_
  refine V_aload_n dX5_keepBest_10 rfl ?_
  refine Vm_getI 10 dX5_keepBest_11 q1174 (by decide) ?_
  refine V_topi hq0 ?_
  refine V_iconst dX5_keepBest_14 li_1 ?_
  refine V_iaddN dX5_keepBest_15 ?_
  refine Vm_putI 22 dX5_keepBest_16 q1186 (by decide) ?_
  refine V_aload_n dX5_keepBest_19 rfl ?_
  refine Vm_getA 23 dX5_keepBest_20 q1187 (by decide) ?_
  refine V_aload_n dX5_keepBest_23 rfl ?_
  refine Vm_getI 10 dX5_keepBest_24 q1174 (by decide) ?_
  refine V_topi (show _ = nI qq from hq0) ?_
  refine V_iload_n dX5_keepBest_27 rfl ?_
  refine Vm_iast dX5_keepBest_28 (by first | rfl | assumption) (by show _ < 9; omega) (by decide) ?_
  refine V_iconst dX5_keepBest_29 li_0 ?_
  refine V_istore dX5_keepBest_30 rfl (Nat.le_of_ble_eq_true rfl) (Nat.le_of_ble_eq_true rfl) ?_
  exact L32 mm 0 (-1) (-1) _ (by omega) (LI_wr (by omega) (LI_w22 ⟨qq + 1, by omega, rfl⟩ hL)) _ (by unfold kbF; rw [hvm, hvq])
def keepP (d what : Int32) (S : xSt) : Int32 × xSt := if nI 0 ≤ d ∧ d ≤ nI 23 then (if nI 0 ≤ what ∧ what ≤ nI 1 then keepF (vN d) what (asToldF S) else (-2, S)) else (-2, S)
set_option maxHeartbeats 4000000 in
theorem m_keep (l : Launch) (S : xSt) (d what : Int32) (hS : MI S) : Cm l yX5_keep cX5_keep 3 (some .int) 9 [.int d, .int what] S (fun r S' => ∃ x, r = some (.int x) ∧ x = (keepP d what S).1 ∧ S' = (keepP d what S).2) := by
  refine Cm_start (ls := [some (.ref 1000), some (.int d), some (.int what)]) (by decide) rfl (Nat.le_of_ble_eq_true rfl) ?_
  intro Q hQ
  refine V_iload_n dX5_keep_0 rfl ?_
  refine Vs_callIF (m_isDay l _) dX5_keep_1 (lw_S q1375 q1376 q103 q1377) hs_X5_isDay (by decide) rfl (Nat.le_of_ble_eq_true rfl) ?_
  refine V_if_eqB (tgt := 25) dX5_keep_4 (by decide) (fun c4 => ?_) (fun c4 => ?_)
  · refine V_bipush dX5_keep_25 lb_m2 ?_
    exact V_ireturn dX5_keep_27 rfl (hQ _ _ ⟨_, rfl, ⟨by unfold keepP; rw [if_neg c4], by unfold keepP; rw [if_neg c4]⟩⟩)
  · obtain ⟨d, hd, rfl⟩ := bd_I (by decide) c4
    have hvd : vN (nI d) = d := vN_nI (by omega)
    refine V_iload_n dX5_keep_7 rfl ?_
    refine V_iconst dX5_keep_8 li_0 ?_
    refine V_iconst dX5_keep_9 li_1 ?_
    refine Vs_callIF (m_in l _ _ _) dX5_keep_10 (lw_S q1308 q1309 q103 q1310) hs_X5_in (by decide) rfl (Nat.le_of_ble_eq_true rfl) ?_
    refine V_if_eqB (tgt := 25) dX5_keep_13 (by decide) (fun c13 => ?_) (fun c13 => ?_)
    · refine V_bipush dX5_keep_25 lb_m2 ?_
      exact V_ireturn dX5_keep_27 rfl (hQ _ _ ⟨_, rfl, ⟨by unfold keepP; rw [if_pos c4, if_neg c13], by unfold keepP; rw [if_pos c4, if_neg c13]⟩⟩)
    · refine V_aload_n dX5_keep_16 rfl ?_
      refine V_iload_n dX5_keep_17 rfl ?_
      refine V_iload_n dX5_keep_18 rfl ?_
      refine Vm_callIF (m_keepBest l _ d what (by omega) hS) dX5_keep_19 (lw_V q1532 q1534 qs76 q103 q1535) hv_X5_keepBest (by decide) rfl (Nat.le_of_ble_eq_true rfl) ?_
      refine V_goto (tgt := 27) dX5_keep_22 (by decide) ?_
      exact V_ireturn dX5_keep_27 rfl (hQ _ _ ⟨_, rfl, ⟨by unfold keepP; rw [if_pos c4, if_pos c13, hvd], by unfold keepP; rw [if_pos c4, if_pos c13, hvd]⟩⟩)
set_option maxHeartbeats 4000000 in
theorem m_dueOf (l : Launch) (S : xSt) (p : Nat) (what : Int32) (hp : p < 10) (hS : MI S) : Cm l yX5_dueOf cX5_dueOf 8 (some .int) 8 [.int (nI p), .int what] S (fun r S' => ∃ x, r = some (.int x) ∧ x = (dueF p what (asToldF S)).1 ∧ S' = (dueF p what (asToldF S)).2) := by
  refine Cm_start (ls := [some (.ref 1000), some (.int (nI p)), some (.int what), none, none, none, none, none]) (by decide) rfl (Nat.le_of_ble_eq_true rfl) ?_
  intro Q hQ
  have hT := m_asTold l S hS
  have hL := LI_0 hS
  obtain ⟨pp, hpp, hp0⟩ := hL.1.1
  obtain ⟨mm, hmm, hm0⟩ := hL.1.2.1
  obtain ⟨qq, hqq, hq0⟩ : bd (asToldF S 10 0) 8 := (MI_asTold hS).2.2.1
  have hvp : vN (asToldF S 2 0) = pp := by rw [hp0]; exact vN_nI (by omega)
  have hvm : vN (asToldF S 5 0) = mm := by rw [hm0]; exact vN_nI (by omega)
  have hvq : vN (asToldF S 10 0) = qq := by rw [hq0]; exact vN_nI (by omega)
  generalize asToldF S = R at hQ hT hL hp0 hm0 hq0 hvp hvm hvq 
  have L22 : ∀ (j : Nat) (d : Nat) (a m : Int32) (S1 : xSt) (hj : d + j = 24) (h1 : LI R S1) (xx : Option Value) (hR : duK p j d a m S1 = duF p R), V l (yX5_dueOf.cls, cX5_dueOf, 8, (some .int), [], yX5_dueOf.name) (rmD 8 0 0, xF0, Q, xX0) 22 [some (.ref 1000), some (.int (nI p)), some (.int what), some (.int (R 9 p)), some (.int a), some (.int m), some (.int (nI d)), xx] [] (mW S1) 0 0 := by
    intro j
    induction j with
    | zero =>
      intro d a m S1 hj h1 xx hR
      refine V_iload dX5_dueOf_22 rfl ?_
      refine V_bipush dX5_dueOf_24 lb_24 ?_
      refine V_icmp_ge (tgt := 85) dX5_dueOf_26 (by decide) (fun _ => ?_) (fun c26 => absurd (nI_le (by omega) (by omega)) c26)
      refine V_aload_n dX5_dueOf_85 rfl ?_
      refine Vm_getA 9 dX5_dueOf_86 q1173 (by decide) ?_
      refine V_iload_n dX5_dueOf_89 rfl ?_
      refine V_iload_n dX5_dueOf_90 rfl ?_
      refine Vm_iast dX5_dueOf_91 rfl (by show _ < 12; omega) (by decide) ?_
      refine V_iload_n dX5_dueOf_92 rfl ?_
      refine V_if_ne (tgt := 101) dX5_dueOf_93 (by decide) (fun c93 => ?_) (fun c93 => ?_)
      · refine V_iload dX5_dueOf_101 rfl ?_
        exact V_ireturn dX5_dueOf_103 rfl (hQ _ _ ⟨_, rfl, ⟨by unfold dueF; rw [← hR, if_neg c93]; rfl, by unfold dueF; rw [← hR]; rfl⟩⟩)
      · refine V_iload dX5_dueOf_96 rfl ?_
        refine V_goto (tgt := 103) dX5_dueOf_98 (by decide) ?_
        exact V_ireturn dX5_dueOf_103 rfl (hQ _ _ ⟨_, rfl, ⟨by unfold dueF; rw [← hR, if_pos c93]; rfl, by unfold dueF; rw [← hR]; rfl⟩⟩)
    | succ j ih =>
      intro d a m S1 hj h1 xx hR
      refine V_iload dX5_dueOf_22 rfl ?_
      refine V_bipush dX5_dueOf_24 lb_24 ?_
      refine V_icmp_ge (tgt := 85) dX5_dueOf_26 (by decide) (fun c26 => absurd c26 (nI_ge (by omega) (by omega))) (fun _ => ?_)
      refine V_aload_n dX5_dueOf_29 rfl ?_
      refine Vm_getA 9 dX5_dueOf_30 q1173 (by decide) ?_
      refine V_iload_n dX5_dueOf_33 rfl ?_
      refine V_iload dX5_dueOf_34 rfl ?_
      refine Vm_iast dX5_dueOf_36 rfl (by show _ < 12; omega) (by decide) ?_
      refine V_aload_n dX5_dueOf_37 rfl ?_
      refine Vm_callVF (m_runs l _ (LI_wr (by omega) h1).1) dX5_dueOf_38 (lw_V q1421 q1423 qs57 q103 q1424) hv_X5_runs (by decide) rfl (Nat.le_of_ble_eq_true rfl) ?_
      refine V_aload_n dX5_dueOf_41 rfl ?_
      refine Vm_callIF (m_tearsAll l _ (LI_p (LI_run (LI_wr (by omega) h1)))) dX5_dueOf_42 (lw_V q1504 q1506 qs72 q103 q1507) hv_X5_tearsAll (by decide) rfl (Nat.le_of_ble_eq_true rfl) ?_
      refine V_istore dX5_dueOf_45 rfl (Nat.le_of_ble_eq_true rfl) (Nat.le_of_ble_eq_true rfl) ?_
      refine V_iload dX5_dueOf_47 rfl ?_
      refine V_iload dX5_dueOf_49 rfl ?_
      refine V_icmp_ge (tgt := 59) dX5_dueOf_51 (by decide) (fun c51 => ?_) (fun c51 => ?_)
      · refine V_iload dX5_dueOf_59 rfl ?_
        refine V_istore dX5_dueOf_61 rfl (Nat.le_of_ble_eq_true rfl) (Nat.le_of_ble_eq_true rfl) ?_
        refine V_iload dX5_dueOf_63 rfl ?_
        refine V_iload dX5_dueOf_65 rfl ?_
        refine V_icmp_ge (tgt := 75) dX5_dueOf_67 (by decide) (fun _ => ?_) (fun c67 => absurd c51 c67)
        refine V_iload dX5_dueOf_75 rfl ?_
        refine V_istore dX5_dueOf_77 rfl (Nat.le_of_ble_eq_true rfl) (Nat.le_of_ble_eq_true rfl) ?_
        refine V_iinc dX5_dueOf_79 rfl (iinc_1 _) rfl (Nat.le_of_ble_eq_true rfl) ?_
        refine V_goto (tgt := 22) dX5_dueOf_82 (by decide) ?_
        exact ih (d + 1) _ _ _ (by omega) (LI_run (LI_wr (by omega) h1)) _ (by rw [← hR, duK_s, if_pos c51, if_pos c51])
      · refine V_iload dX5_dueOf_54 rfl ?_
        refine V_goto (tgt := 61) dX5_dueOf_56 (by decide) ?_
        refine V_istore dX5_dueOf_61 rfl (Nat.le_of_ble_eq_true rfl) (Nat.le_of_ble_eq_true rfl) ?_
        refine V_iload dX5_dueOf_63 rfl ?_
        refine V_iload dX5_dueOf_65 rfl ?_
        refine V_icmp_ge (tgt := 75) dX5_dueOf_67 (by decide) (fun c67 => absurd c67 c51) (fun _ => ?_)
        refine V_iload dX5_dueOf_70 rfl ?_
        refine V_goto (tgt := 77) dX5_dueOf_72 (by decide) ?_
        refine V_istore dX5_dueOf_77 rfl (Nat.le_of_ble_eq_true rfl) (Nat.le_of_ble_eq_true rfl) ?_
        refine V_iinc dX5_dueOf_79 rfl (iinc_1 _) rfl (Nat.le_of_ble_eq_true rfl) ?_
        refine V_goto (tgt := 22) dX5_dueOf_82 (by decide) ?_
        exact ih (d + 1) _ _ _ (by omega) (LI_run (LI_wr (by omega) h1)) _ (by rw [← hR, duK_s, if_neg c51, if_neg c51])
  refine V_aload_n dX5_dueOf_0 rfl ?_
  refine Vm_callVF hT dX5_dueOf_1 (lw_V q1417 q1419 qs56 q103 q1420) hv_X5_asTold (by decide) rfl (Nat.le_of_ble_eq_true rfl) ?_
  refine V_aload_n dX5_dueOf_4 rfl ?_
  refine Vm_getA 9 dX5_dueOf_5 q1173 (by decide) ?_
  refine V_iload_n dX5_dueOf_8 rfl ?_
  refine Vm_iald dX5_dueOf_9 rfl (by show _ < 12; omega) (by decide) ?_
  refine V_istore_n dX5_dueOf_10 rfl (Nat.le_of_ble_eq_true rfl) (Nat.le_of_ble_eq_true rfl) ?_
  refine V_iconst dX5_dueOf_11 li_m1 ?_
  refine V_istore dX5_dueOf_12 rfl (Nat.le_of_ble_eq_true rfl) (Nat.le_of_ble_eq_true rfl) ?_
  refine V_sipush dX5_dueOf_14 ls_999 ?_
  refine V_istore dX5_dueOf_17 rfl (Nat.le_of_ble_eq_true rfl) (Nat.le_of_ble_eq_true rfl) ?_
  refine V_iconst dX5_dueOf_19 li_0 ?_
  refine V_istore dX5_dueOf_20 rfl (Nat.le_of_ble_eq_true rfl) (Nat.le_of_ble_eq_true rfl) ?_
  exact L22 24 0 (-1) (nI 999) _ (by omega) hL _ rfl
def dueP (p what : Int32) (S : xSt) : Int32 × xSt := if nI 0 ≤ p ∧ p ≤ readsF S 5 0 - nI 1 then (if nI 0 ≤ what ∧ what ≤ nI 1 then dueF (vN p) what (asToldF (readsF S)) else (-2, readsF S)) else (-2, readsF S)
set_option maxHeartbeats 4000000 in
theorem m_due (l : Launch) (S : xSt) (p what : Int32) (hS : MI S) : Cm l yX5_due cX5_due 3 (some .int) 9 [.int p, .int what] S (fun r S' => ∃ x, r = some (.int x) ∧ x = (dueP p what S).1 ∧ S' = (dueP p what S).2) := by
  refine Cm_start (ls := [some (.ref 1000), some (.int p), some (.int what)]) (by decide) rfl (Nat.le_of_ble_eq_true rfl) ?_
  intro Q hQ
  have hRp := (RD_p hS).2
  have hMR := MI_reads hS
  have hI := m_isPromise l S p hS.1
  refine V_aload_n dX5_due_0 rfl ?_
  refine V_iload_n dX5_due_1 rfl ?_
  refine Vm_callIF hI dX5_due_2 (lw_V q1363 q1365 qs51 q103 q1366) hv_X5_isPromise (by decide) rfl (Nat.le_of_ble_eq_true rfl) ?_
  refine V_if_eqB (tgt := 26) dX5_due_5 (by decide) (fun c5 => ?_) (fun c5 => ?_)
  · refine V_bipush dX5_due_26 lb_m2 ?_
    exact V_ireturn dX5_due_28 rfl (hQ _ _ ⟨_, rfl, ⟨by unfold dueP; rw [if_neg c5], by unfold dueP; rw [if_neg c5]⟩⟩)
  · obtain ⟨p, rfl, -, hp⟩ := bd_in (n := 10) (by decide) hRp c5
    have hvp : vN (nI p) = p := vN_nI (by omega)
    refine V_iload_n dX5_due_8 rfl ?_
    refine V_iconst dX5_due_9 li_0 ?_
    refine V_iconst dX5_due_10 li_1 ?_
    refine Vs_callIF (m_in l _ _ _) dX5_due_11 (lw_S q1308 q1309 q103 q1310) hs_X5_in (by decide) rfl (Nat.le_of_ble_eq_true rfl) ?_
    refine V_if_eqB (tgt := 26) dX5_due_14 (by decide) (fun c14 => ?_) (fun c14 => ?_)
    · refine V_bipush dX5_due_26 lb_m2 ?_
      exact V_ireturn dX5_due_28 rfl (hQ _ _ ⟨_, rfl, ⟨by unfold dueP; rw [if_pos c5, if_neg c14], by unfold dueP; rw [if_pos c5, if_neg c14]⟩⟩)
    · refine V_aload_n dX5_due_17 rfl ?_
      refine V_iload_n dX5_due_18 rfl ?_
      refine V_iload_n dX5_due_19 rfl ?_
      refine Vm_callIF (m_dueOf l _ p what hp hMR) dX5_due_20 (lw_V q1540 q1542 qs77 q103 q1543) hv_X5_dueOf (by decide) rfl (Nat.le_of_ble_eq_true rfl) ?_
      refine V_goto (tgt := 28) dX5_due_23 (by decide) ?_
      exact V_ireturn dX5_due_28 rfl (hQ _ _ ⟨_, rfl, ⟨by unfold dueP; rw [if_pos c5, if_pos c14, hvp], by unfold dueP; rw [if_pos c5, if_pos c14, hvp]⟩⟩)
