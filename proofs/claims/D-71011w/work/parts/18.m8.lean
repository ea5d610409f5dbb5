/-! the model: what is seen, never, sizes, sorts, ask -/
set_option maxRecDepth 100000
def snK (S : xSt) : Nat → Nat → Int32
  | 0, _ => nI 1
  | j + 1, i => if S 2 0 ≤ S 36 i then nI 0 else if S 30 (8 * vN (S 35 i) + vN (S 36 i)) = S 37 i then snK S j (i + 1) else nI 0
theorem snK_s (S : xSt) (j i : Nat) : snK S (j + 1) i = if S 2 0 ≤ S 36 i then nI 0 else if S 30 (8 * vN (S 35 i) + vN (S 36 i)) = S 37 i then snK S j (i + 1) else nI 0 := rfl
abbrev snQ (S : xSt) : Prop := snK S (vN (S 34 0)) 0 = nI 1
def nvK : Nat → Nat → Int32 → xSt → Int32 × xSt
  | 0, _, a, S => (a, S)
  | j + 1, i, a, S => nvK j (i + 1) (a ||| if snQ (runsF (mwr S 25 0 (sh1 i))) then sh1 i else nI 0) (runsF (mwr S 25 0 (sh1 i)))
theorem nvK_s (j i : Nat) (a : Int32) (S : xSt) : nvK (j + 1) i a S = nvK j (i + 1) (a ||| if snQ (runsF (mwr S 25 0 (sh1 i))) then sh1 i else nI 0) (runsF (mwr S 25 0 (sh1 i))) := rfl
def neverF (R : xSt) : Int32 × xSt := nvK (vN (R 10 0)) 0 (nI 0) R
def szI (k v d : Nat) (S : xSt) : xSt := mwr S 38 (24 * v + d) (S 30 (8 * d + k))
def szF (k v : Nat) (S : xSt) : xSt := itF (szI k v) 24 0 S
def szK (k : Nat) : Nat → Nat → Int32 → xSt → Int32 × xSt
  | 0, _, a, S => (a, S)
  | j + 1, v, a, S => szK k j (v + 1) (a ||| if snQ (runsF (mwr S 4 k (nI v))) then sh1 v else nI 0) (szF k v (runsF (mwr S 4 k (nI v))))
theorem szK_s (k j v : Nat) (a : Int32) (S : xSt) : szK k (j + 1) v a S = szK k j (v + 1) (a ||| if snQ (runsF (mwr S 4 k (nI v))) then sh1 v else nI 0) (szF k v (runsF (mwr S 4 k (nI v)))) := rfl
def szR (k : Nat) (R : xSt) : Int32 × xSt := szK k 10 0 (nI 0) R
def sizesF (k : Nat) (R : xSt) : Int32 × xSt := ((szR k R).1, mwr (szR k R).2 4 k (R 4 k))
def soK (k : Nat) : Nat → Nat → Int32 → xSt → Int32 × xSt
  | 0, _, a, S => (a, S)
  | j + 1, v, a, S => soK k j (v + 1) (a ||| if snQ (runsF (mwr S 3 k (nI v))) then sh1 v else nI 0) (runsF (mwr S 3 k (nI v)))
theorem soK_s (k j v : Nat) (a : Int32) (S : xSt) : soK k (j + 1) v a S = soK k j (v + 1) (a ||| if snQ (runsF (mwr S 3 k (nI v))) then sh1 v else nI 0) (runsF (mwr S 3 k (nI v))) := rfl
def soR (k : Nat) (R : xSt) : Int32 × xSt := soK k 3 0 (nI 0) R
def sortsF (k : Nat) (R : xSt) : Int32 × xSt := ((soR k R).1, mwr (soR k R).2 3 k (R 3 k))
theorem LI_it {S0 : xSt} {f : Nat → xSt → xSt} (hf : ∀ i S, LI S0 S → LI S0 (f i S)) : ∀ j i S, LI S0 S → LI S0 (itF f j i S)
  | 0, _, _, h => h
  | j + 1, i, S, h => LI_it hf j (i + 1) _ (hf i S h)
theorem LI_sz {S0 S : xSt} (k v : Nat) (h : LI S0 S) : LI S0 (szF k v S) := LI_it (fun _ _ hS => LI_wr (by omega) hS) _ _ _ h

set_option maxHeartbeats 4000000 in
theorem m_isSeen (l : Launch) (S : xSt) (hP : PV S) (hV : SV S) : Cm l yX5_isSeen cX5_isSeen 3 (some .boolean) 6 [] S (fun r S' => ∃ x, r = some (.int x) ∧ x = bI (snQ (runsF S)) ∧ S' = runsF S) := by
  refine Cm_start (ls := [some (.ref 1000), none, none]) (by decide) rfl (Nat.le_of_ble_eq_true rfl) ?_
  intro Q hQ
  have hT := m_runs l S hP
  have hV' : SV (runsF S) := SV_eq ⟨runsF_fr S 34 (by omega), runsF_fr S 35 (by omega), runsF_fr S 36 (by omega)⟩ hV
  have hpp := (PV_fr (runsF_fr S) hP).1
  generalize runsF S = R at hQ hT hV' hpp
  obtain ⟨⟨ss, hss, hs0⟩, hD, hW⟩ := hV'
  obtain ⟨pp, hpl, hp0⟩ := hpp
  have hvs : vN (R 34 0) = ss := by rw [hs0]; exact vN_nI (by omega)
  have Z8 : ∀ (i : Nat) (hi : i ≤ 8) (hz : ¬ snQ R), V l (yX5_isSeen.cls, cX5_isSeen, 3, (some .boolean), [], yX5_isSeen.name) (rmD 6 0 0, xF0, Q, xX0) 8 [some (.ref 1000), some (.int (nI 0)), some (.int (nI i))] [] (mW R) 0 0 := by
    intro i hi hz
    refine V_iload_n dX5_isSeen_8 rfl ?_
    refine V_aload_n dX5_isSeen_9 rfl ?_
    refine Vm_getI 34 dX5_isSeen_10 q1198 (by decide) ?_
    refine V_icmp_ge (tgt := 75) dX5_isSeen_13 (by decide) (fun c13 => ?_) (fun c13 => ?_)
    · refine V_iload_n dX5_isSeen_75 rfl ?_
      exact V_zreturn dX5_isSeen_76 rfl (by first | exact bI_nr | exact nr_0 | exact nr_1) (hQ _ _ ⟨_, rfl, ⟨bI_f hz, rfl⟩⟩)
    · refine V_iload_n dX5_isSeen_16 rfl ?_
      refine V_if_eq (tgt := 75) dX5_isSeen_17 (by decide) (fun _ => ?_) (fun c17 => absurd rfl c17)
      refine V_iload_n dX5_isSeen_75 rfl ?_
      exact V_zreturn dX5_isSeen_76 rfl (by first | exact bI_nr | exact nr_0 | exact nr_1) (hQ _ _ ⟨_, rfl, ⟨bI_f hz, rfl⟩⟩)
  have L8 : ∀ (j : Nat) (i : Nat) (hj : i + j = ss) (hR : snK R j i = snK R ss 0), V l (yX5_isSeen.cls, cX5_isSeen, 3, (some .boolean), [], yX5_isSeen.name) (rmD 6 0 0, xF0, Q, xX0) 8 [some (.ref 1000), some (.int (nI 1)), some (.int (nI i))] [] (mW R) 0 0 := by
    intro j
    induction j with
    | zero =>
      intro i hj hR
      refine V_iload_n dX5_isSeen_8 rfl ?_
      refine V_aload_n dX5_isSeen_9 rfl ?_
      refine Vm_getI 34 dX5_isSeen_10 q1198 (by decide) ?_
      refine V_topi hs0 ?_
      refine V_icmp_ge (tgt := 75) dX5_isSeen_13 (by decide) (fun _ => ?_) (fun c13 => absurd (nI_le (by omega) (by omega)) c13)
      refine V_iload_n dX5_isSeen_75 rfl ?_
      exact V_zreturn dX5_isSeen_76 rfl (by first | exact bI_nr | exact nr_0 | exact nr_1) (hQ _ _ ⟨_, rfl, ⟨bI_t (by show snK R (vN (R 34 0)) 0 = nI 1; rw [hvs, ← hR]; rfl), rfl⟩⟩)
    | succ j ih =>
      intro i hj hR
      obtain ⟨dd, hdd, hd0⟩ := hD i (by omega)
      obtain ⟨ww, hww, hw0⟩ := hW i (by omega)
      have hvd : vN (R 35 i) = dd := by rw [hd0]; exact vN_nI (by omega)
      have hvw : vN (R 36 i) = ww := by rw [hw0]; exact vN_nI (by omega)
      refine V_iload_n dX5_isSeen_8 rfl ?_
      refine V_aload_n dX5_isSeen_9 rfl ?_
      refine Vm_getI 34 dX5_isSeen_10 q1198 (by decide) ?_
      refine V_topi hs0 ?_
      refine V_icmp_ge (tgt := 75) dX5_isSeen_13 (by decide) (fun c13 => absurd c13 (nI_ge (by omega) (by omega))) (fun _ => ?_)
      refine V_iload_n dX5_isSeen_16 rfl ?_
      refine V_if_eq (tgt := 75) dX5_isSeen_17 (by decide) (fun c17 => absurd c17 (by decide +kernel)) (fun _ => ?_)
      refine V_aload_n dX5_isSeen_20 rfl ?_
      refine Vm_getA 36 dX5_isSeen_21 q1200 (by decide) ?_
      refine V_iload_n dX5_isSeen_24 rfl ?_
      refine Vm_iald dX5_isSeen_25 (by first | rfl | assumption) (by show _ < 8; omega) (by decide) ?_
      refine V_aload_n dX5_isSeen_26 rfl ?_
      refine Vm_getI 2 dX5_isSeen_27 q1166 (by decide) ?_
      refine V_icmp_ge (tgt := 67) dX5_isSeen_30 (by decide) (fun c30 => ?_) (fun c30 => ?_)
      · refine V_iconst dX5_isSeen_67 li_0 ?_
        refine V_istore_n dX5_isSeen_68 rfl (Nat.le_of_ble_eq_true rfl) (Nat.le_of_ble_eq_true rfl) ?_
        refine V_iinc dX5_isSeen_69 rfl (iinc_1 _) rfl (Nat.le_of_ble_eq_true rfl) ?_
        refine V_goto (tgt := 8) dX5_isSeen_72 (by decide) ?_
        exact Z8 (i + 1) (by omega) (fun e => absurd (by rw [← e, hvs, ← hR, snK_s, if_pos c30] : nI 0 = nI 1) (by decide +kernel))
      · refine V_aload_n dX5_isSeen_33 rfl ?_
        refine Vm_getA 30 dX5_isSeen_34 q1194 (by decide) ?_
        refine V_bipush dX5_isSeen_37 lb_8 ?_
        refine V_aload_n dX5_isSeen_39 rfl ?_
        refine Vm_getA 35 dX5_isSeen_40 q1199 (by decide) ?_
        refine V_iload_n dX5_isSeen_43 rfl ?_
        refine Vm_iald dX5_isSeen_44 (by first | rfl | assumption) (by show _ < 8; omega) (by decide) ?_
        refine V_topi hd0 ?_
        refine V_imulN dX5_isSeen_45 ?_
        refine V_aload_n dX5_isSeen_46 rfl ?_
        refine Vm_getA 36 dX5_isSeen_47 q1200 (by decide) ?_
        refine V_iload_n dX5_isSeen_50 rfl ?_
        refine Vm_iald dX5_isSeen_51 (by first | rfl | assumption) (by show _ < 8; omega) (by decide) ?_
        refine V_topi hw0 ?_
        refine V_iaddN dX5_isSeen_52 ?_
        refine Vm_iald dX5_isSeen_53 (by first | rfl | assumption) (by show _ < 192; omega) (by decide) ?_
        refine V_aload_n dX5_isSeen_54 rfl ?_
        refine Vm_getA 37 dX5_isSeen_55 q1201 (by decide) ?_
        refine V_iload_n dX5_isSeen_58 rfl ?_
        refine Vm_iald dX5_isSeen_59 (by first | rfl | assumption) (by show _ < 8; omega) (by decide) ?_
        refine V_icmp_ne (tgt := 67) dX5_isSeen_60 (by decide) (fun c60 => ?_) (fun c60 => ?_)
        · refine V_iconst dX5_isSeen_67 li_0 ?_
          refine V_istore_n dX5_isSeen_68 rfl (Nat.le_of_ble_eq_true rfl) (Nat.le_of_ble_eq_true rfl) ?_
          refine V_iinc dX5_isSeen_69 rfl (iinc_1 _) rfl (Nat.le_of_ble_eq_true rfl) ?_
          refine V_goto (tgt := 8) dX5_isSeen_72 (by decide) ?_
          exact Z8 (i + 1) (by omega) (fun e => absurd (by rw [← e, hvs, ← hR, snK_s, if_neg c30, hvd, hvw, if_neg c60] : nI 0 = nI 1) (by decide +kernel))
        · refine V_iconst dX5_isSeen_63 li_1 ?_
          refine V_goto (tgt := 68) dX5_isSeen_64 (by decide) ?_
          refine V_istore_n dX5_isSeen_68 rfl (Nat.le_of_ble_eq_true rfl) (Nat.le_of_ble_eq_true rfl) ?_
          refine V_iinc dX5_isSeen_69 rfl (iinc_1 _) rfl (Nat.le_of_ble_eq_true rfl) ?_
          refine V_goto (tgt := 8) dX5_isSeen_72 (by decide) ?_
          exact ih (i + 1) (by omega) (by rw [← hR, snK_s, if_neg c30, hvd, hvw, if_pos c60])
  refine V_aload_n dX5_isSeen_0 rfl ?_
  refine Vm_callVF hT dX5_isSeen_1 (lw_V q1421 q1423 qs57 q103 q1424) hv_X5_runs (by decide) rfl (Nat.le_of_ble_eq_true rfl) ?_
  refine V_iconst dX5_isSeen_4 li_1 ?_
  refine V_istore_n dX5_isSeen_5 rfl (Nat.le_of_ble_eq_true rfl) (Nat.le_of_ble_eq_true rfl) ?_
  refine V_iconst dX5_isSeen_6 li_0 ?_
  refine V_istore_n dX5_isSeen_7 rfl (Nat.le_of_ble_eq_true rfl) (Nat.le_of_ble_eq_true rfl) ?_
  exact L8 ss 0 (by omega) rfl
set_option maxHeartbeats 4000000 in
theorem m_neverNow (l : Launch) (S : xSt) (hS : MI S) : Cm l yX5_neverNow cX5_neverNow 3 (some .int) 8 [] S (fun r S' => ∃ x, r = some (.int x) ∧ x = (neverF (asToldF S)).1 ∧ S' = (neverF (asToldF S)).2) := by
  refine Cm_start (ls := [some (.ref 1000), none, none]) (by decide) rfl (Nat.le_of_ble_eq_true rfl) ?_
  intro Q hQ
  have hT := m_asTold l S hS
  have hL := LI_0 hS
  obtain ⟨pp, hpp, hp0⟩ := hL.1.1
  obtain ⟨mm, hmm, hm0⟩ := hL.1.2.1
  obtain ⟨qq, hqq, hq0⟩ : bd (asToldF S 10 0) 8 := (MI_asTold hS).2.2.1
  have hvp : vN (asToldF S 2 0) = pp := by rw [hp0]; exact vN_nI (by omega)
  have hvm : vN (asToldF S 5 0) = mm := by rw [hm0]; exact vN_nI (by omega)
  have hvq : vN (asToldF S 10 0) = qq := by rw [hq0]; exact vN_nI (by omega)
  generalize asToldF S = R at hQ hT hL hp0 hm0 hq0 hvp hvm hvq 
  have L8 : ∀ (j : Nat) (i : Nat) (a : Int32) (S1 : xSt) (hj : i + j = qq) (h1 : LI R S1) (hR : nvK j i a S1 = neverF R), V l (yX5_neverNow.cls, cX5_neverNow, 3, (some .int), [], yX5_neverNow.name) (rmD 8 0 0, xF0, Q, xX0) 8 [some (.ref 1000), some (.int a), some (.int (nI i))] [] (mW S1) 0 0 := by
    intro j
    induction j with
    | zero =>
      intro i a S1 hj h1 hR
      refine V_iload_n dX5_neverNow_8 rfl ?_
      refine V_aload_n dX5_neverNow_9 rfl ?_
      refine Vm_getI 10 dX5_neverNow_10 q1174 (by decide) ?_
      refine V_topi (LI_g h1 hq0 (by omega)) ?_
      refine V_icmp_ge (tgt := 46) dX5_neverNow_13 (by decide) (fun _ => ?_) (fun c13 => absurd (nI_le (by omega) (by omega)) c13)
      refine V_iload_n dX5_neverNow_46 rfl ?_
      exact V_ireturn dX5_neverNow_47 rfl (hQ _ _ ⟨_, rfl, ⟨by rw [← hR]; rfl, by rw [← hR]; rfl⟩⟩)
    | succ j ih =>
      intro i a S1 hj h1 hR
      refine V_iload_n dX5_neverNow_8 rfl ?_
      refine V_aload_n dX5_neverNow_9 rfl ?_
      refine Vm_getI 10 dX5_neverNow_10 q1174 (by decide) ?_
      refine V_topi (LI_g h1 hq0 (by omega)) ?_
      refine V_icmp_ge (tgt := 46) dX5_neverNow_13 (by decide) (fun c13 => absurd c13 (nI_ge (by omega) (by omega))) (fun _ => ?_)
      refine V_aload_n dX5_neverNow_16 rfl ?_
      refine V_iconst dX5_neverNow_17 li_1 ?_
      refine V_iload_n dX5_neverNow_18 rfl ?_
      refine V_ishl dX5_neverNow_19 ?_
      refine Vm_putI 25 dX5_neverNow_20 q1189 (by decide) ?_
      refine V_iload_n dX5_neverNow_23 rfl ?_
      refine V_aload_n dX5_neverNow_24 rfl ?_
      refine Vm_callIF (m_isSeen l _ (LI_wr (by omega) h1).1 (LI_wr (by omega) h1).2.1) dX5_neverNow_25 (lw_V q1576 q1578 qs82 q103 q1579) hv_X5_isSeen (by decide) rfl (Nat.le_of_ble_eq_true rfl) ?_
      refine V_if_eqB (tgt := 37) dX5_neverNow_28 (by decide) (fun c28 => ?_) (fun c28 => ?_)
      · refine V_iconst dX5_neverNow_37 li_0 ?_
        refine V_ior dX5_neverNow_38 ?_
        refine V_istore_n dX5_neverNow_39 rfl (Nat.le_of_ble_eq_true rfl) (Nat.le_of_ble_eq_true rfl) ?_
        refine V_iinc dX5_neverNow_40 rfl (iinc_1 _) rfl (Nat.le_of_ble_eq_true rfl) ?_
        refine V_goto (tgt := 8) dX5_neverNow_43 (by decide) ?_
        exact ih (i + 1) _ _ (by omega) (LI_run (LI_wr (by omega) h1)) (by rw [← hR, nvK_s, if_neg c28])
      · refine V_iconst dX5_neverNow_31 li_1 ?_
        refine V_iload_n dX5_neverNow_32 rfl ?_
        refine V_ishl dX5_neverNow_33 ?_
        refine V_goto (tgt := 38) dX5_neverNow_34 (by decide) ?_
        refine V_ior dX5_neverNow_38 ?_
        refine V_istore_n dX5_neverNow_39 rfl (Nat.le_of_ble_eq_true rfl) (Nat.le_of_ble_eq_true rfl) ?_
        refine V_iinc dX5_neverNow_40 rfl (iinc_1 _) rfl (Nat.le_of_ble_eq_true rfl) ?_
        refine V_goto (tgt := 8) dX5_neverNow_43 (by decide) ?_
        exact ih (i + 1) _ _ (by omega) (LI_run (LI_wr (by omega) h1)) (by rw [← hR, nvK_s, if_pos c28])
  refine V_aload_n dX5_neverNow_0 rfl ?_
  refine Vm_callVF hT dX5_neverNow_1 (lw_V q1417 q1419 qs56 q103 q1420) hv_X5_asTold (by decide) rfl (Nat.le_of_ble_eq_true rfl) ?_
  refine V_iconst dX5_neverNow_4 li_0 ?_
  refine V_istore_n dX5_neverNow_5 rfl (Nat.le_of_ble_eq_true rfl) (Nat.le_of_ble_eq_true rfl) ?_
  refine V_iconst dX5_neverNow_6 li_0 ?_
  refine V_istore_n dX5_neverNow_7 rfl (Nat.le_of_ble_eq_true rfl) (Nat.le_of_ble_eq_true rfl) ?_
  exact L8 qq 0 (nI 0) _ (by omega) hL (by unfold neverF; rw [hvq])
def neverP (S : xSt) : Int32 × xSt := neverF (asToldF S)
set_option maxHeartbeats 4000000 in
theorem m_never (l : Launch) (S : xSt) (hS : MI S) : Cm l yX5_never cX5_never 1 (some .int) 9 [] S (fun r S' => ∃ x, r = some (.int x) ∧ x = (neverP S).1 ∧ S' = (neverP S).2) := by
  refine Cm_start (ls := [some (.ref 1000)]) (by decide) rfl (Nat.le_of_ble_eq_true rfl) ?_
  intro Q hQ
  refine V_aload_n dX5_never_0 rfl ?_
  refine Vm_callIF (m_neverNow l _ hS) dX5_never_1 (lw_V q1572 q1574 qs81 q103 q1575) hv_X5_neverNow (by decide) rfl (Nat.le_of_ble_eq_true rfl) ?_
  exact V_ireturn dX5_never_4 rfl (hQ _ _ ⟨_, rfl, ⟨rfl, rfl⟩⟩)
set_option maxHeartbeats 4000000 in
theorem m_sizesBy (l : Launch) (S : xSt) (k : Nat) (hk : k < 8) (hS : MI S) : Cm l yX5_sizesBy cX5_sizesBy 6 (some .int) 8 [.int (nI k)] S (fun r S' => ∃ x, r = some (.int x) ∧ x = (sizesF k (asToldF S)).1 ∧ S' = (sizesF k (asToldF S)).2) := by
  refine Cm_start (ls := [some (.ref 1000), some (.int (nI k)), none, none, none, none]) (by decide) rfl (Nat.le_of_ble_eq_true rfl) ?_
  intro Q hQ
  have hT := m_asTold l S hS
  have hL := LI_0 hS
  obtain ⟨pp, hpp, hp0⟩ := hL.1.1
  obtain ⟨mm, hmm, hm0⟩ := hL.1.2.1
  obtain ⟨qq, hqq, hq0⟩ : bd (asToldF S 10 0) 8 := (MI_asTold hS).2.2.1
  have hvp : vN (asToldF S 2 0) = pp := by rw [hp0]; exact vN_nI (by omega)
  have hvm : vN (asToldF S 5 0) = mm := by rw [hm0]; exact vN_nI (by omega)
  have hvq : vN (asToldF S 10 0) = qq := by rw [hq0]; exact vN_nI (by omega)
  generalize asToldF S = R at hQ hT hL hp0 hm0 hq0 hvp hvm hvq 
  have L96 : ∀ (a : Int32) (S1 : xSt) (v : Nat) (xx : Option Value) (hR : (a, S1) = szR k R), V l (yX5_sizesBy.cls, cX5_sizesBy, 6, (some .int), [], yX5_sizesBy.name) (rmD 8 0 0, xF0, Q, xX0) 96 [some (.ref 1000), some (.int (nI k)), some (.int (R 4 k)), some (.int a), some (.int (nI v)), xx] [] (mW S1) 0 0 := by
    intro a S1 v xx hR
    refine V_aload_n dX5_sizesBy_96 rfl ?_
    refine Vm_getA 4 dX5_sizesBy_97 q1168 (by decide) ?_
    refine V_iload_n dX5_sizesBy_100 rfl ?_
    refine V_iload_n dX5_sizesBy_101 rfl ?_
    refine Vm_iast dX5_sizesBy_102 (by first | rfl | assumption) (by show _ < 9; omega) (by decide) ?_
    refine V_iload_n dX5_sizesBy_103 rfl ?_
    exact V_ireturn dX5_sizesBy_104 rfl (hQ _ _ ⟨_, rfl, ⟨by unfold sizesF; rw [← hR], by unfold sizesF; rw [← hR]⟩⟩)
  have L16 : ∀ (j v : Nat) (a : Int32) (S1 : xSt) (xx : Option Value) (hj : v + j = 10) (h1 : LI R S1) (hR : szK k j v a S1 = szR k R), V l (yX5_sizesBy.cls, cX5_sizesBy, 6, (some .int), [], yX5_sizesBy.name) (rmD 8 0 0, xF0, Q, xX0) 16 [some (.ref 1000), some (.int (nI k)), some (.int (R 4 k)), some (.int a), some (.int (nI v)), xx] [] (mW S1) 0 0 := by
    intro j
    induction j with
    | zero =>
      intro v a S1 xx hj h1 hR
      refine V_iload dX5_sizesBy_16 rfl ?_
      refine V_bipush dX5_sizesBy_18 lb_10 ?_
      refine V_icmp_ge (tgt := 96) dX5_sizesBy_20 (by decide) (fun _ => ?_) (fun c20 => absurd (nI_le (by omega) (by omega)) c20)
      exact L96 a S1 v xx hR
    | succ j ih =>
      intro v a S1 xx hj h1 hR
      have L52 : ∀ (i d : Nat) (a2 : Int32) (S2 : xSt) (hi : d + i = 24) (h2 : LI R S2) (hR2 : szK k j (v + 1) a2 (itF (szI k v) i d S2) = szR k R), V l (yX5_sizesBy.cls, cX5_sizesBy, 6, (some .int), [], yX5_sizesBy.name) (rmD 8 0 0, xF0, Q, xX0) 52 [some (.ref 1000), some (.int (nI k)), some (.int (R 4 k)), some (.int a2), some (.int (nI v)), some (.int (nI d))] [] (mW S2) 0 0 := by
        intro i
        induction i with
        | zero =>
          intro d a2 S2 hi h2 hR2
          refine V_iload dX5_sizesBy_52 rfl ?_
          refine V_bipush dX5_sizesBy_54 lb_24 ?_
          refine V_icmp_ge (tgt := 90) dX5_sizesBy_56 (by decide) (fun _ => ?_) (fun c56 => absurd (nI_le (by omega) (by omega)) c56)
          refine V_iinc dX5_sizesBy_90 rfl (iinc_1 _) rfl (Nat.le_of_ble_eq_true rfl) ?_
          refine V_goto (tgt := 16) dX5_sizesBy_93 (by decide) ?_
          exact ih (v + 1) a2 S2 _ (by omega) h2 hR2
        | succ i ih2 =>
          intro d a2 S2 hi h2 hR2
          refine V_iload dX5_sizesBy_52 rfl ?_
          refine V_bipush dX5_sizesBy_54 lb_24 ?_
          refine V_icmp_ge (tgt := 90) dX5_sizesBy_56 (by decide) (fun c56 => absurd c56 (nI_ge (by omega) (by omega))) (fun _ => ?_)
          refine V_aload_n dX5_sizesBy_59 rfl ?_
          refine Vm_getA 38 dX5_sizesBy_60 q1202 (by decide) ?_
          refine V_bipush dX5_sizesBy_63 lb_24 ?_
          refine V_iload dX5_sizesBy_65 rfl ?_
          refine V_imulN dX5_sizesBy_67 ?_
          refine V_iload dX5_sizesBy_68 rfl ?_
          refine V_iaddN dX5_sizesBy_70 ?_
          refine V_aload_n dX5_sizesBy_71 rfl ?_
          refine Vm_getA 30 dX5_sizesBy_72 q1194 (by decide) ?_
          refine V_bipush dX5_sizesBy_75 lb_8 ?_
          refine V_iload dX5_sizesBy_77 rfl ?_
          refine V_imulN dX5_sizesBy_79 ?_
          refine V_iload_n dX5_sizesBy_80 rfl ?_
          refine V_iaddN dX5_sizesBy_81 ?_
          refine Vm_iald dX5_sizesBy_82 (by first | rfl | assumption) (by show _ < 192; omega) (by decide) ?_
          refine Vm_iast dX5_sizesBy_83 (by first | rfl | assumption) (by show _ < 240; omega) (by decide) ?_
          refine V_iinc dX5_sizesBy_84 rfl (iinc_1 _) rfl (Nat.le_of_ble_eq_true rfl) ?_
          refine V_goto (tgt := 52) dX5_sizesBy_87 (by decide) ?_
          exact ih2 (d + 1) a2 _ (by omega) (LI_wr (by omega) h2) hR2
      refine V_iload dX5_sizesBy_16 rfl ?_
      refine V_bipush dX5_sizesBy_18 lb_10 ?_
      refine V_icmp_ge (tgt := 96) dX5_sizesBy_20 (by decide) (fun c20 => absurd c20 (nI_ge (by omega) (by omega))) (fun _ => ?_)
      refine V_aload_n dX5_sizesBy_23 rfl ?_
      refine Vm_getA 4 dX5_sizesBy_24 q1168 (by decide) ?_
      refine V_iload_n dX5_sizesBy_27 rfl ?_
      refine V_iload dX5_sizesBy_28 rfl ?_
      refine Vm_iast dX5_sizesBy_30 rfl (by show _ < 9; omega) (by decide) ?_
      refine V_iload_n dX5_sizesBy_31 rfl ?_
      refine V_aload_n dX5_sizesBy_32 rfl ?_
      refine Vm_callIF (m_isSeen l _ (LI_wr (by omega) h1).1 (LI_wr (by omega) h1).2.1) dX5_sizesBy_33 (lw_V q1576 q1578 qs82 q103 q1579) hv_X5_isSeen (by decide) rfl (Nat.le_of_ble_eq_true rfl) ?_
      refine V_if_eqB (tgt := 46) dX5_sizesBy_36 (by decide) (fun c36 => ?_) (fun c36 => ?_)
      · refine V_iconst dX5_sizesBy_46 li_0 ?_
        refine V_ior dX5_sizesBy_47 ?_
        refine V_istore_n dX5_sizesBy_48 rfl (Nat.le_of_ble_eq_true rfl) (Nat.le_of_ble_eq_true rfl) ?_
        refine V_iconst dX5_sizesBy_49 li_0 ?_
        refine V_istore dX5_sizesBy_50 rfl (Nat.le_of_ble_eq_true rfl) (Nat.le_of_ble_eq_true rfl) ?_
        exact L52 24 0 _ _ (by omega) (LI_run (LI_wr (by omega) h1)) (by rw [← hR, szK_s, if_neg c36]; rfl)
      · refine V_iconst dX5_sizesBy_39 li_1 ?_
        refine V_iload dX5_sizesBy_40 rfl ?_
        refine V_ishl dX5_sizesBy_42 ?_
        refine V_goto (tgt := 47) dX5_sizesBy_43 (by decide) ?_
        refine V_ior dX5_sizesBy_47 ?_
        refine V_istore_n dX5_sizesBy_48 rfl (Nat.le_of_ble_eq_true rfl) (Nat.le_of_ble_eq_true rfl) ?_
        refine V_iconst dX5_sizesBy_49 li_0 ?_
        refine V_istore dX5_sizesBy_50 rfl (Nat.le_of_ble_eq_true rfl) (Nat.le_of_ble_eq_true rfl) ?_
        exact L52 24 0 _ _ (by omega) (LI_run (LI_wr (by omega) h1)) (by rw [← hR, szK_s, if_pos c36]; rfl)
  refine V_aload_n dX5_sizesBy_0 rfl ?_
  refine Vm_callVF hT dX5_sizesBy_1 (lw_V q1417 q1419 qs56 q103 q1420) hv_X5_asTold (by decide) rfl (Nat.le_of_ble_eq_true rfl) ?_
  refine V_aload_n dX5_sizesBy_4 rfl ?_
  refine Vm_getA 4 dX5_sizesBy_5 q1168 (by decide) ?_
  refine V_iload_n dX5_sizesBy_8 rfl ?_
  refine Vm_iald dX5_sizesBy_9 rfl (by show _ < 9; omega) (by decide) ?_
  refine V_istore_n dX5_sizesBy_10 rfl (Nat.le_of_ble_eq_true rfl) (Nat.le_of_ble_eq_true rfl) ?_
  refine V_iconst dX5_sizesBy_11 li_0 ?_
  refine V_istore_n dX5_sizesBy_12 rfl (Nat.le_of_ble_eq_true rfl) (Nat.le_of_ble_eq_true rfl) ?_
  refine V_iconst dX5_sizesBy_13 li_0 ?_
  refine V_istore dX5_sizesBy_14 rfl (Nat.le_of_ble_eq_true rfl) (Nat.le_of_ble_eq_true rfl) ?_
  exact L16 10 0 (nI 0) _ _ (by omega) hL rfl
set_option maxHeartbeats 4000000 in
theorem m_sortsBy (l : Launch) (S : xSt) (k : Nat) (hk : k < 8) (hS : MI S) : Cm l yX5_sortsBy cX5_sortsBy 5 (some .int) 8 [.int (nI k)] S (fun r S' => ∃ x, r = some (.int x) ∧ x = (sortsF k (asToldF S)).1 ∧ S' = (sortsF k (asToldF S)).2) := by
  refine Cm_start (ls := [some (.ref 1000), some (.int (nI k)), none, none, none]) (by decide) rfl (Nat.le_of_ble_eq_true rfl) ?_
  intro Q hQ
  have hT := m_asTold l S hS
  have hL := LI_0 hS
  obtain ⟨pp, hpp, hp0⟩ := hL.1.1
  obtain ⟨mm, hmm, hm0⟩ := hL.1.2.1
  obtain ⟨qq, hqq, hq0⟩ : bd (asToldF S 10 0) 8 := (MI_asTold hS).2.2.1
  have hvp : vN (asToldF S 2 0) = pp := by rw [hp0]; exact vN_nI (by omega)
  have hvm : vN (asToldF S 5 0) = mm := by rw [hm0]; exact vN_nI (by omega)
  have hvq : vN (asToldF S 10 0) = qq := by rw [hq0]; exact vN_nI (by omega)
  generalize asToldF S = R at hQ hT hL hp0 hm0 hq0 hvp hvm hvq 
  have L16 : ∀ (j : Nat) (v : Nat) (a : Int32) (S1 : xSt) (hj : v + j = 3) (h1 : LI R S1) (hR : soK k j v a S1 = soR k R), V l (yX5_sortsBy.cls, cX5_sortsBy, 5, (some .int), [], yX5_sortsBy.name) (rmD 8 0 0, xF0, Q, xX0) 16 [some (.ref 1000), some (.int (nI k)), some (.int (R 3 k)), some (.int a), some (.int (nI v))] [] (mW S1) 0 0 := by
    intro j
    induction j with
    | zero =>
      intro v a S1 hj h1 hR
      refine V_iload dX5_sortsBy_16 rfl ?_
      refine V_iconst dX5_sortsBy_18 li_3 ?_
      refine V_icmp_ge (tgt := 54) dX5_sortsBy_19 (by decide) (fun _ => ?_) (fun c19 => absurd (nI_le (by omega) (by omega)) c19)
      refine V_aload_n dX5_sortsBy_54 rfl ?_
      refine Vm_getA 3 dX5_sortsBy_55 q1167 (by decide) ?_
      refine V_iload_n dX5_sortsBy_58 rfl ?_
      refine V_iload_n dX5_sortsBy_59 rfl ?_
      refine Vm_iast dX5_sortsBy_60 (by first | rfl | assumption) (by show _ < 9; omega) (by decide) ?_
      refine V_iload_n dX5_sortsBy_61 rfl ?_
      exact V_ireturn dX5_sortsBy_62 rfl (hQ _ _ ⟨_, rfl, ⟨by unfold sortsF; rw [← hR]; rfl, by unfold sortsF; rw [← hR]; rfl⟩⟩)
    | succ j ih =>
      intro v a S1 hj h1 hR
      refine V_iload dX5_sortsBy_16 rfl ?_
      refine V_iconst dX5_sortsBy_18 li_3 ?_
      refine V_icmp_ge (tgt := 54) dX5_sortsBy_19 (by decide) (fun c19 => absurd c19 (nI_ge (by omega) (by omega))) (fun _ => ?_)
      refine V_aload_n dX5_sortsBy_22 rfl ?_
      refine Vm_getA 3 dX5_sortsBy_23 q1167 (by decide) ?_
      refine V_iload_n dX5_sortsBy_26 rfl ?_
      refine V_iload dX5_sortsBy_27 rfl ?_
      refine Vm_iast dX5_sortsBy_29 rfl (by show _ < 9; omega) (by decide) ?_
      refine V_iload_n dX5_sortsBy_30 rfl ?_
      refine V_aload_n dX5_sortsBy_31 rfl ?_
      refine Vm_callIF (m_isSeen l _ (LI_wr (by omega) h1).1 (LI_wr (by omega) h1).2.1) dX5_sortsBy_32 (lw_V q1576 q1578 qs82 q103 q1579) hv_X5_isSeen (by decide) rfl (Nat.le_of_ble_eq_true rfl) ?_
      refine V_if_eqB (tgt := 45) dX5_sortsBy_35 (by decide) (fun c35 => ?_) (fun c35 => ?_)
      · refine V_iconst dX5_sortsBy_45 li_0 ?_
        refine V_ior dX5_sortsBy_46 ?_
        refine V_istore_n dX5_sortsBy_47 rfl (Nat.le_of_ble_eq_true rfl) (Nat.le_of_ble_eq_true rfl) ?_
        refine V_iinc dX5_sortsBy_48 rfl (iinc_1 _) rfl (Nat.le_of_ble_eq_true rfl) ?_
        refine V_goto (tgt := 16) dX5_sortsBy_51 (by decide) ?_
        exact ih (v + 1) _ _ (by omega) (LI_run (LI_wr (by omega) h1)) (by rw [← hR, soK_s, if_neg c35])
      · refine V_iconst dX5_sortsBy_38 li_1 ?_
        refine V_iload dX5_sortsBy_39 rfl ?_
        refine V_ishl dX5_sortsBy_41 ?_
        refine V_goto (tgt := 46) dX5_sortsBy_42 (by decide) ?_
        refine V_ior dX5_sortsBy_46 ?_
        refine V_istore_n dX5_sortsBy_47 rfl (Nat.le_of_ble_eq_true rfl) (Nat.le_of_ble_eq_true rfl) ?_
        refine V_iinc dX5_sortsBy_48 rfl (iinc_1 _) rfl (Nat.le_of_ble_eq_true rfl) ?_
        refine V_goto (tgt := 16) dX5_sortsBy_51 (by decide) ?_
        exact ih (v + 1) _ _ (by omega) (LI_run (LI_wr (by omega) h1)) (by rw [← hR, soK_s, if_pos c35])
  refine V_aload_n dX5_sortsBy_0 rfl ?_
  refine Vm_callVF hT dX5_sortsBy_1 (lw_V q1417 q1419 qs56 q103 q1420) hv_X5_asTold (by decide) rfl (Nat.le_of_ble_eq_true rfl) ?_
  refine V_aload_n dX5_sortsBy_4 rfl ?_
  refine Vm_getA 3 dX5_sortsBy_5 q1167 (by decide) ?_
  refine V_iload_n dX5_sortsBy_8 rfl ?_
  refine Vm_iald dX5_sortsBy_9 rfl (by show _ < 9; omega) (by decide) ?_
  refine V_istore_n dX5_sortsBy_10 rfl (Nat.le_of_ble_eq_true rfl) (Nat.le_of_ble_eq_true rfl) ?_
  refine V_iconst dX5_sortsBy_11 li_0 ?_
  refine V_istore_n dX5_sortsBy_12 rfl (Nat.le_of_ble_eq_true rfl) (Nat.le_of_ble_eq_true rfl) ?_
  refine V_iconst dX5_sortsBy_13 li_0 ?_
  refine V_istore dX5_sortsBy_14 rfl (Nat.le_of_ble_eq_true rfl) (Nat.le_of_ble_eq_true rfl) ?_
  exact L16 3 0 (nI 0) _ (by omega) hL rfl
def wasP (k what : Int32) (S : xSt) : Int32 × xSt := if nI 0 ≤ k ∧ k ≤ readsF S 2 0 - nI 1 then (if nI 0 ≤ what ∧ what ≤ nI 1 then (if what = 0 then sizesF (vN k) (asToldF (readsF S)) else sortsF (vN k) (asToldF (readsF S))) else (-2, readsF S)) else (-2, readsF S)
set_option maxHeartbeats 4000000 in
theorem m_was (l : Launch) (S : xSt) (k what : Int32) (hS : MI S) : Cm l yX5_was cX5_was 3 (some .int) 9 [.int k, .int what] S (fun r S' => ∃ x, r = some (.int x) ∧ x = (wasP k what S).1 ∧ S' = (wasP k what S).2) := by
  refine Cm_start (ls := [some (.ref 1000), some (.int k), some (.int what)]) (by decide) rfl (Nat.le_of_ble_eq_true rfl) ?_
  intro Q hQ
  have hRp := (RD_p hS).1
  have hMR := MI_reads hS
  have hI := m_isPerson l S k hS.1
  refine V_aload_n dX5_was_0 rfl ?_
  refine V_iload_n dX5_was_1 rfl ?_
  refine Vm_callIF hI dX5_was_2 (lw_V q1347 q1349 qs48 q103 q1350) hv_X5_isPerson (by decide) rfl (Nat.le_of_ble_eq_true rfl) ?_
  refine V_if_eqB (tgt := 37) dX5_was_5 (by decide) (fun c5 => ?_) (fun c5 => ?_)
  · refine V_bipush dX5_was_37 lb_m2 ?_
    exact V_ireturn dX5_was_39 rfl (hQ _ _ ⟨_, rfl, ⟨by unfold wasP; rw [if_neg c5], by unfold wasP; rw [if_neg c5]⟩⟩)
  · obtain ⟨k, rfl, -, hk⟩ := bd_in (n := 8) (by decide) hRp c5
    have hvk : vN (nI k) = k := vN_nI (by omega)
    refine V_iload_n dX5_was_8 rfl ?_
    refine V_iconst dX5_was_9 li_0 ?_
    refine V_iconst dX5_was_10 li_1 ?_
    refine Vs_callIF (m_in l _ _ _) dX5_was_11 (lw_S q1308 q1309 q103 q1310) hs_X5_in (by decide) rfl (Nat.le_of_ble_eq_true rfl) ?_
    refine V_if_eqB (tgt := 37) dX5_was_14 (by decide) (fun c14 => ?_) (fun c14 => ?_)
    · refine V_bipush dX5_was_37 lb_m2 ?_
      exact V_ireturn dX5_was_39 rfl (hQ _ _ ⟨_, rfl, ⟨by unfold wasP; rw [if_pos c5, if_neg c14], by unfold wasP; rw [if_pos c5, if_neg c14]⟩⟩)
    · refine V_iload_n dX5_was_17 rfl ?_
      refine V_if_ne (tgt := 29) dX5_was_18 (by decide) (fun c18 => ?_) (fun c18 => ?_)
      · refine V_aload_n dX5_was_29 rfl ?_
        refine V_iload_n dX5_was_30 rfl ?_
        refine Vm_callIF (m_sortsBy l _ k hk hMR) dX5_was_31 (lw_V q1588 q1590 qs84 q103 q1591) hv_X5_sortsBy (by decide) rfl (Nat.le_of_ble_eq_true rfl) ?_
        refine V_goto (tgt := 39) dX5_was_34 (by decide) ?_
        exact V_ireturn dX5_was_39 rfl (hQ _ _ ⟨_, rfl, ⟨by unfold wasP; rw [if_pos c5, if_pos c14, if_neg c18, hvk], by unfold wasP; rw [if_pos c5, if_pos c14, if_neg c18, hvk]⟩⟩)
      · refine V_aload_n dX5_was_21 rfl ?_
        refine V_iload_n dX5_was_22 rfl ?_
        refine Vm_callIF (m_sizesBy l _ k hk hMR) dX5_was_23 (lw_V q1584 q1586 qs83 q103 q1587) hv_X5_sizesBy (by decide) rfl (Nat.le_of_ble_eq_true rfl) ?_
        refine V_goto (tgt := 39) dX5_was_26 (by decide) ?_
        exact V_ireturn dX5_was_39 rfl (hQ _ _ ⟨_, rfl, ⟨by unfold wasP; rw [if_pos c5, if_pos c14, if_pos c18, hvk], by unfold wasP; rw [if_pos c5, if_pos c14, if_pos c18, hvk]⟩⟩)
