/-! the model: sheets, counts -/
set_option maxRecDepth 100000
abbrev zS (S : xSt) : Prop := ∀ i, i < 4 → bd (S 41 i) 60
def zeI (s i : Nat) (S : xSt) : xSt := mwr S 42 (60 * s + i) (nI 0)
def sheetT (s : Nat) (form n : Int32) (S : xSt) : xSt := itF (zeI s) 60 0 (mwr (mwr (mwr S 39 s (nI 1)) 40 s form) 41 s n)
def sheetP (s form n : Int32) (S : xSt) : Int32 × xSt := if nI 0 ≤ s ∧ s ≤ nI 3 then (if nI 0 ≤ form ∧ form ≤ nI 2 then (if n ≤ nI 60 then (if 0 ≤ n then (n, sheetT (vN s) form n S) else meetsF 5 S) else (-2, S)) else (-2, S)) else (-2, S)
def loseP (s : Int32) (S : xSt) : Int32 × xSt := if nI 0 ≤ s ∧ s ≤ nI 3 then (if S 39 (vN s) = 0 then meetsF 1 S else (S 41 (vN s), mwr S 39 (vN s) (nI 0))) else (-2, S)
def lackN (S : xSt) (s : Nat) (form i : Int32) : Nat := if S 39 s = 0 then 1 else if S 40 s = form then (if nI 0 ≤ i ∧ i ≤ S 41 s - nI 1 then 0 else 2) else 3
def lyV (f v : Int32) : Int32 := if f = 0 then v.toInt8.toInt32 else if f = nI 1 then v.toInt16.toInt32 else v
def laysF (s i : Nat) (v : Int32) (S : xSt) : xSt := mwr S 42 (60 * s + i) (lyV (S 40 s) v)
def putP (s form i v : Int32) (S : xSt) : Int32 × xSt := if nI 0 ≤ s ∧ s ≤ nI 3 then (if nI 0 ≤ form ∧ form ≤ nI 2 then (if nI (lackN S (vN s) form i) ≤ 0 then (nI 1, laysF (vN s) (vN i) v S) else meetsF (lackN S (vN s) form i) S) else (-2, S)) else (-2, S)
def getP (s form i : Int32) (S : xSt) : Int32 × xSt := if nI 0 ≤ s ∧ s ≤ nI 3 then (if nI 0 ≤ form ∧ form ≤ nI 2 then (if nI (lackN S (vN s) form i) ≤ 0 then (S 42 (60 * vN s + vN i), S) else (-2147483648, mwr S 44 0 (nI (lackN S (vN s) form i)))) else (-2147483648, S)) else (-2147483648, S)
theorem lack0 {S : xSt} {s : Nat} {form i : Int32} (hz : bd (S 41 s) 60) (h : nI (lackN S s form i) ≤ 0) : ∃ q, i = nI q ∧ q < 60 := by
  unfold lackN at h
  split at h
  · exact absurd h (by decide +kernel)
  · split at h
    · split at h
      · rename_i hin
        obtain ⟨q, rfl, -, hq⟩ := bd_in (n := 60) (by decide) hz hin
        exact ⟨q, rfl, hq⟩
      · exact absurd h (by decide +kernel)
    · exact absurd h (by decide +kernel)
theorem lack3 (S : xSt) (s : Nat) (form i : Int32) : lackN S s form i < 4 := by
  unfold lackN
  repeat' split
  all_goals decide
def moI (s i k : Nat) (S : xSt) : xSt := mwr S 43 k (S 42 (60 * s + i + k))
def mvI (t j k : Nat) (S : xSt) : xSt := mwr S 42 (60 * t + j + k) (S 43 k)
def copyT (s i t j n : Nat) (S : xSt) : xSt := itF (mvI t j) n 0 (itF (moI s i) n 0 S)
def copyR (s t : Nat) (i j n : Int32) (S : xSt) : Int32 × xSt := if i < 0 then meetsF 2 S else if j < 0 then meetsF 2 S else if n < 0 then meetsF 2 S else if 0 < lg_cmp (i.toInt64 + n.toInt64) (S 41 s).toInt64 then meetsF 2 S else if lg_cmp (j.toInt64 + n.toInt64) (S 41 t).toInt64 ≤ 0 then (nI 1, copyT s (vN i) t (vN j) (vN n) S) else meetsF 2 S
def copyP (s i t j n : Int32) (S : xSt) : Int32 × xSt := if nI 0 ≤ s ∧ s ≤ nI 3 then (if nI 0 ≤ t ∧ t ≤ nI 3 then (if S 39 (vN s) = 0 then meetsF 1 S else if S 39 (vN t) = 0 then meetsF 1 S else if S 40 (vN s) = S 40 (vN t) then copyR (vN s) (vN t) i j n S else meetsF 4 S) else (-2, S)) else (-2, S)
def wrI (k s n : Nat) (S : xSt) : xSt := laysF s n (S 30 (8 * n + k)) S
def writeT (k s : Nat) (R : xSt) : Int32 × xSt := (nI (min (vN (R 41 s)) 24), itF (wrI k s) (min (vN (R 41 s)) 24) 0 R)
def writeP (k s : Int32) (S : xSt) : Int32 × xSt := if nI 0 ≤ k ∧ k ≤ readsF S 2 0 - nI 1 then (if nI 0 ≤ s ∧ s ≤ nI 3 then (if readsF S 39 (vN s) = 0 then meetsF 1 (readsF S) else writeT (vN k) (vN s) (RT (readsF S))) else (-2, readsF S)) else (-2, readsF S)

set_option maxHeartbeats 4000000 in
theorem m_sheet (l : Launch) (S : xSt) (s form n : Int32) : Cm l yX5_sheet cX5_sheet 5 (some .int) 2 [.int s, .int form, .int n] S (fun r S' => ∃ x, r = some (.int x) ∧ x = (sheetP s form n S).1 ∧ S' = (sheetP s form n S).2) := by
  refine Cm_start (ls := [some (.ref 1000), some (.int s), some (.int form), some (.int n), none]) (by decide) rfl (Nat.le_of_ble_eq_true rfl) ?_
  intro Q hQ
  refine V_iload_n dX5_sheet_0 rfl ?_
  refine Vs_callIF (m_isSheet l _) dX5_sheet_1 (lw_S q1397 q1398 q103 q1399) hs_X5_isSheet (by decide) rfl (Nat.le_of_ble_eq_true rfl) ?_
  refine V_if_eqB (tgt := 22) dX5_sheet_4 (by decide) (fun c4 => ?_) (fun c4 => ?_)
  · refine V_bipush dX5_sheet_22 lb_m2 ?_
    exact V_ireturn dX5_sheet_24 rfl (hQ _ _ ⟨_, rfl, ⟨by unfold sheetP; rw [if_neg c4], by unfold sheetP; rw [if_neg c4]⟩⟩)
  · obtain ⟨s, hs, rfl⟩ := bd_I (by decide) c4
    have hvs : vN (nI s) = s := vN_nI (by omega)
    refine V_iload_n dX5_sheet_7 rfl ?_
    refine V_iconst dX5_sheet_8 li_0 ?_
    refine V_iconst dX5_sheet_9 li_2 ?_
    refine Vs_callIF (m_in l _ _ _) dX5_sheet_10 (lw_S q1308 q1309 q103 q1310) hs_X5_in (by decide) rfl (Nat.le_of_ble_eq_true rfl) ?_
    refine V_if_eqB (tgt := 22) dX5_sheet_13 (by decide) (fun c13 => ?_) (fun c13 => ?_)
    · refine V_bipush dX5_sheet_22 lb_m2 ?_
      exact V_ireturn dX5_sheet_24 rfl (hQ _ _ ⟨_, rfl, ⟨by unfold sheetP; rw [if_pos c4, if_neg c13], by unfold sheetP; rw [if_pos c4, if_neg c13]⟩⟩)
    · refine V_iload_n dX5_sheet_16 rfl ?_
      refine V_bipush dX5_sheet_17 lb_60 ?_
      refine V_icmp_le (tgt := 25) dX5_sheet_19 (by decide) (fun c19 => ?_) (fun c19 => ?_)
      · refine V_iload_n dX5_sheet_25 rfl ?_
        refine V_if_ge (tgt := 35) dX5_sheet_26 (by decide) (fun c26 => ?_) (fun c26 => ?_)
        · have L59 : ∀ (j i : Nat) (S1 : xSt) (hj : i + j = 60) (hR : itF (zeI s) j i S1 = sheetT s form n S), V l (yX5_sheet.cls, cX5_sheet, 5, (some .int), [], yX5_sheet.name) (rmD 2 0 0, xF0, Q, xX0) 59 [some (.ref 1000), some (.int (nI s)), some (.int form), some (.int n), some (.int (nI i))] [] (mW S1) 0 0 := by
            intro j
            induction j with
            | zero =>
              intro i S1 hj hR
              refine V_iload dX5_sheet_59 rfl ?_
              refine V_bipush dX5_sheet_61 lb_60 ?_
              refine V_icmp_ge (tgt := 85) dX5_sheet_63 (by decide) (fun _ => ?_) (fun c63 => absurd (nI_le (by omega) (by omega)) c63)
              refine V_iload_n dX5_sheet_85 rfl ?_
              exact V_ireturn dX5_sheet_86 rfl (hQ _ _ ⟨_, rfl, ⟨by unfold sheetP; rw [if_pos c4, if_pos c13, if_pos c19, if_pos c26], by unfold sheetP; rw [if_pos c4, if_pos c13, if_pos c19, if_pos c26, hvs, ← hR]; rfl⟩⟩)
            | succ j ih =>
              intro i S1 hj hR
              refine V_iload dX5_sheet_59 rfl ?_
              refine V_bipush dX5_sheet_61 lb_60 ?_
              refine V_icmp_ge (tgt := 85) dX5_sheet_63 (by decide) (fun c63 => absurd c63 (nI_ge (by omega) (by omega))) (fun _ => ?_)
              refine V_aload_n dX5_sheet_66 rfl ?_
              refine Vm_getA 42 dX5_sheet_67 q1206 (by decide) ?_
              refine V_bipush dX5_sheet_70 lb_60 ?_
              refine V_iload_n dX5_sheet_72 rfl ?_
              refine V_imulN dX5_sheet_73 ?_
              refine V_iload dX5_sheet_74 rfl ?_
              refine V_iaddN dX5_sheet_76 ?_
              refine V_iconst dX5_sheet_77 li_0 ?_
              refine Vm_iast dX5_sheet_78 rfl (by show _ < 240; omega) (by decide) ?_
              refine V_iinc dX5_sheet_79 rfl (iinc_1 _) rfl (Nat.le_of_ble_eq_true rfl) ?_
              refine V_goto (tgt := 59) dX5_sheet_82 (by decide) ?_
              exact ih (i + 1) _ (by omega) hR
          refine V_aload_n dX5_sheet_35 rfl ?_
          refine Vm_getA 39 dX5_sheet_36 q1203 (by decide) ?_
          refine V_iload_n dX5_sheet_39 rfl ?_
          refine V_iconst dX5_sheet_40 li_1 ?_
          refine Vm_zast dX5_sheet_41 (by first | rfl | assumption) (by show _ < 4; omega) (by decide) rfl ?_
          refine V_aload_n dX5_sheet_42 rfl ?_
          refine Vm_getA 40 dX5_sheet_43 q1204 (by decide) ?_
          refine V_iload_n dX5_sheet_46 rfl ?_
          refine V_iload_n dX5_sheet_47 rfl ?_
          refine Vm_iast dX5_sheet_48 (by first | rfl | assumption) (by show _ < 4; omega) (by decide) ?_
          refine V_aload_n dX5_sheet_49 rfl ?_
          refine Vm_getA 41 dX5_sheet_50 q1205 (by decide) ?_
          refine V_iload_n dX5_sheet_53 rfl ?_
          refine V_iload_n dX5_sheet_54 rfl ?_
          refine Vm_iast dX5_sheet_55 (by first | rfl | assumption) (by show _ < 4; omega) (by decide) ?_
          refine V_iconst dX5_sheet_56 li_0 ?_
          refine V_istore dX5_sheet_57 rfl (Nat.le_of_ble_eq_true rfl) (Nat.le_of_ble_eq_true rfl) ?_
          exact L59 60 0 _ (by omega) rfl
        · refine V_aload_n dX5_sheet_29 rfl ?_
          refine V_iconst dX5_sheet_30 li_5 ?_
          refine Vm_callIF (m_meets l _ 5) dX5_sheet_31 (lw_V q1400 q1402 qs53 q103 q1403) hv_X5_meets (by decide) rfl (Nat.le_of_ble_eq_true rfl) ?_
          exact V_ireturn dX5_sheet_34 rfl (hQ _ _ ⟨_, rfl, ⟨by unfold sheetP; rw [if_pos c4, if_pos c13, if_pos c19, if_neg c26], by unfold sheetP; rw [if_pos c4, if_pos c13, if_pos c19, if_neg c26]⟩⟩)
      · refine V_bipush dX5_sheet_22 lb_m2 ?_
        exact V_ireturn dX5_sheet_24 rfl (hQ _ _ ⟨_, rfl, ⟨by unfold sheetP; rw [if_pos c4, if_pos c13, if_neg c19], by unfold sheetP; rw [if_pos c4, if_pos c13, if_neg c19]⟩⟩)
set_option maxHeartbeats 4000000 in
theorem m_lose (l : Launch) (S : xSt) (s : Int32) : Cm l yX5_lose cX5_lose 2 (some .int) 2 [.int s] S (fun r S' => ∃ x, r = some (.int x) ∧ x = (loseP s S).1 ∧ S' = (loseP s S).2) := by
  refine Cm_start (ls := [some (.ref 1000), some (.int s)]) (by decide) rfl (Nat.le_of_ble_eq_true rfl) ?_
  intro Q hQ
  refine V_iload_n dX5_lose_0 rfl ?_
  refine Vs_callIF (m_isSheet l _) dX5_lose_1 (lw_S q1397 q1398 q103 q1399) hs_X5_isSheet (by decide) rfl (Nat.le_of_ble_eq_true rfl) ?_
  refine V_if_neB (tgt := 10) dX5_lose_4 (by decide) (fun c4 => ?_) (fun c4 => ?_)
  · obtain ⟨s, hs, rfl⟩ := bd_I (by decide) c4
    have hvs : vN (nI s) = s := vN_nI (by omega)
    refine V_aload_n dX5_lose_10 rfl ?_
    refine Vm_getA 39 dX5_lose_11 q1203 (by decide) ?_
    refine V_iload_n dX5_lose_14 rfl ?_
    refine Vm_zald dX5_lose_15 (by first | rfl | assumption) (by show _ < 4; omega) (by decide) ?_
    refine V_if_ne (tgt := 25) dX5_lose_16 (by decide) (fun c16 => ?_) (fun c16 => ?_)
    · refine V_aload_n dX5_lose_25 rfl ?_
      refine Vm_getA 39 dX5_lose_26 q1203 (by decide) ?_
      refine V_iload_n dX5_lose_29 rfl ?_
      refine V_iconst dX5_lose_30 li_0 ?_
      refine Vm_zast dX5_lose_31 (by first | rfl | assumption) (by show _ < 4; omega) (by decide) rfl ?_
      rw [show vp_nar .boolean (nI 0) = nI 0 from by decide +kernel]
      refine V_aload_n dX5_lose_32 rfl ?_
      refine Vm_getA 41 dX5_lose_33 q1205 (by decide) ?_
      refine V_iload_n dX5_lose_36 rfl ?_
      refine Vm_iald dX5_lose_37 (by first | rfl | assumption) (by show _ < 4; omega) (by decide) ?_
      refine V_topi (mwr_r _ _ _ _ (by decide)) ?_
      exact V_ireturn dX5_lose_38 rfl (hQ _ _ ⟨_, rfl, ⟨by unfold loseP; rw [if_pos c4, hvs, if_neg c16], by unfold loseP; rw [if_pos c4, hvs, if_neg c16]⟩⟩)
    · refine V_aload_n dX5_lose_19 rfl ?_
      refine V_iconst dX5_lose_20 li_1 ?_
      refine Vm_callIF (m_meets l _ 1) dX5_lose_21 (lw_V q1400 q1402 qs53 q103 q1403) hv_X5_meets (by decide) rfl (Nat.le_of_ble_eq_true rfl) ?_
      exact V_ireturn dX5_lose_24 rfl (hQ _ _ ⟨_, rfl, ⟨by unfold loseP; rw [if_pos c4, hvs, if_pos c16], by unfold loseP; rw [if_pos c4, hvs, if_pos c16]⟩⟩)
  · refine V_bipush dX5_lose_7 lb_m2 ?_
    exact V_ireturn dX5_lose_9 rfl (hQ _ _ ⟨_, rfl, ⟨by unfold loseP; rw [if_neg c4], by unfold loseP; rw [if_neg c4]⟩⟩)
set_option maxHeartbeats 4000000 in
theorem m_lacks (l : Launch) (S : xSt) (s : Nat) (form i : Int32) (hs : s < 4) : Cm l yX5_lacks cX5_lacks 4 (some .int) 1 [.int (nI s), .int form, .int i] S (fun r S' => ∃ x, r = some (.int x) ∧ x = nI (lackN S s form i) ∧ S' = S) := by
  refine Cm_start (ls := [some (.ref 1000), some (.int (nI s)), some (.int form), some (.int i)]) (by decide) rfl (Nat.le_of_ble_eq_true rfl) ?_
  intro Q hQ
  refine V_aload_n dX5_lacks_0 rfl ?_
  refine Vm_getA 39 dX5_lacks_1 q1203 (by decide) ?_
  refine V_iload_n dX5_lacks_4 rfl ?_
  refine Vm_zald dX5_lacks_5 (by first | rfl | assumption) (by show _ < 4; omega) (by decide) ?_
  refine V_if_ne (tgt := 13) dX5_lacks_6 (by decide) (fun c6 => ?_) (fun c6 => ?_)
  · refine V_aload_n dX5_lacks_13 rfl ?_
    refine Vm_getA 40 dX5_lacks_14 q1204 (by decide) ?_
    refine V_iload_n dX5_lacks_17 rfl ?_
    refine Vm_iald dX5_lacks_18 (by first | rfl | assumption) (by show _ < 4; omega) (by decide) ?_
    refine V_iload_n dX5_lacks_19 rfl ?_
    refine V_icmp_eq (tgt := 27) dX5_lacks_20 (by decide) (fun c20 => ?_) (fun c20 => ?_)
    · refine V_iload_n dX5_lacks_27 rfl ?_
      refine V_iconst dX5_lacks_28 li_0 ?_
      refine V_aload_n dX5_lacks_29 rfl ?_
      refine Vm_getA 41 dX5_lacks_30 q1205 (by decide) ?_
      refine V_iload_n dX5_lacks_33 rfl ?_
      refine Vm_iald dX5_lacks_34 (by first | rfl | assumption) (by show _ < 4; omega) (by decide) ?_
      refine V_iconst dX5_lacks_35 li_1 ?_
      refine V_isub dX5_lacks_36 ?_
      refine Vs_callIF (m_in l _ _ _) dX5_lacks_37 (lw_S q1308 q1309 q103 q1310) hs_X5_in (by decide) rfl (Nat.le_of_ble_eq_true rfl) ?_
      refine V_if_eqB (tgt := 47) dX5_lacks_40 (by decide) (fun c40 => ?_) (fun c40 => ?_)
      · refine V_iconst dX5_lacks_47 li_2 ?_
        exact V_ireturn dX5_lacks_48 rfl (hQ _ _ ⟨_, rfl, ⟨by unfold lackN; rw [if_neg c6, if_pos c20, if_neg c40], rfl⟩⟩)
      · refine V_iconst dX5_lacks_43 li_0 ?_
        refine V_goto (tgt := 48) dX5_lacks_44 (by decide) ?_
        exact V_ireturn dX5_lacks_48 rfl (hQ _ _ ⟨_, rfl, ⟨by unfold lackN; rw [if_neg c6, if_pos c20, if_pos c40], rfl⟩⟩)
    · refine V_iconst dX5_lacks_23 li_3 ?_
      refine V_goto (tgt := 48) dX5_lacks_24 (by decide) ?_
      exact V_ireturn dX5_lacks_48 rfl (hQ _ _ ⟨_, rfl, ⟨by unfold lackN; rw [if_neg c6, if_neg c20], rfl⟩⟩)
  · refine V_iconst dX5_lacks_9 li_1 ?_
    refine V_goto (tgt := 48) dX5_lacks_10 (by decide) ?_
    exact V_ireturn dX5_lacks_48 rfl (hQ _ _ ⟨_, rfl, ⟨by unfold lackN; rw [if_pos c6], rfl⟩⟩)
set_option maxHeartbeats 4000000 in
theorem m_lays (l : Launch) (S : xSt) (s i : Nat) (v : Int32) (hs : s < 4) (hi : i < 60) : Cm l yX5_lays cX5_lays 4 none 0 [.int (nI s), .int (nI i), .int v] S (fun r S' => r = none ∧ S' = laysF s i v S) := by
  refine Cm_start (ls := [some (.ref 1000), some (.int (nI s)), some (.int (nI i)), some (.int v)]) (by decide) rfl (Nat.le_of_ble_eq_true rfl) ?_
  intro Q hQ
  refine V_aload_n dX5_lays_0 rfl ?_
  refine Vm_getA 42 dX5_lays_1 q1206 (by decide) ?_
  refine V_bipush dX5_lays_4 lb_60 ?_
  refine V_iload_n dX5_lays_6 rfl ?_
  refine V_imulN dX5_lays_7 ?_
  refine V_iload_n dX5_lays_8 rfl ?_
  refine V_iaddN dX5_lays_9 ?_
  refine V_aload_n dX5_lays_10 rfl ?_
  refine Vm_getA 40 dX5_lays_11 q1204 (by decide) ?_
  refine V_iload_n dX5_lays_14 rfl ?_
  refine Vm_iald dX5_lays_15 (by first | rfl | assumption) (by show _ < 4; omega) (by decide) ?_
  refine V_if_ne (tgt := 24) dX5_lays_16 (by decide) (fun c16 => ?_) (fun c16 => ?_)
  · refine V_aload_n dX5_lays_24 rfl ?_
    refine Vm_getA 40 dX5_lays_25 q1204 (by decide) ?_
    refine V_iload_n dX5_lays_28 rfl ?_
    refine Vm_iald dX5_lays_29 (by first | rfl | assumption) (by show _ < 4; omega) (by decide) ?_
    refine V_iconst dX5_lays_30 li_1 ?_
    refine V_icmp_ne (tgt := 39) dX5_lays_31 (by decide) (fun c31 => ?_) (fun c31 => ?_)
    · refine V_iload_n dX5_lays_39 rfl ?_
      refine Vm_iast dX5_lays_40 rfl (by show _ < 240; omega) (by decide) ?_
      exact V_vreturn dX5_lays_41 rfl (hQ _ _ ⟨rfl, by unfold laysF lyV; rw [if_neg c16, if_neg c31]⟩)
    · refine V_iload_n dX5_lays_34 rfl ?_
      refine V_i2s dX5_lays_35 rfl ?_
      refine V_goto (tgt := 40) dX5_lays_36 (by decide) ?_
      refine Vm_iast dX5_lays_40 rfl (by show _ < 240; omega) (by decide) ?_
      exact V_vreturn dX5_lays_41 rfl (hQ _ _ ⟨rfl, by unfold laysF lyV; rw [if_neg c16, if_pos c31]⟩)
  · refine V_iload_n dX5_lays_19 rfl ?_
    refine V_i2b dX5_lays_20 rfl ?_
    refine V_goto (tgt := 40) dX5_lays_21 (by decide) ?_
    refine Vm_iast dX5_lays_40 rfl (by show _ < 240; omega) (by decide) ?_
    exact V_vreturn dX5_lays_41 rfl (hQ _ _ ⟨rfl, by unfold laysF lyV; rw [if_pos c16]⟩)
set_option maxHeartbeats 4000000 in
theorem m_put (l : Launch) (S : xSt) (s form i v : Int32) (hz : zS S) : Cm l yX5_put cX5_put 6 (some .int) 2 [.int s, .int form, .int i, .int v] S (fun r S' => ∃ x, r = some (.int x) ∧ x = (putP s form i v S).1 ∧ S' = (putP s form i v S).2) := by
  refine Cm_start (ls := [some (.ref 1000), some (.int s), some (.int form), some (.int i), some (.int v), none]) (by decide) rfl (Nat.le_of_ble_eq_true rfl) ?_
  intro Q hQ
  refine V_iload_n dX5_put_0 rfl ?_
  refine Vs_callIF (m_isSheet l _) dX5_put_1 (lw_S q1397 q1398 q103 q1399) hs_X5_isSheet (by decide) rfl (Nat.le_of_ble_eq_true rfl) ?_
  refine V_if_eqB (tgt := 16) dX5_put_4 (by decide) (fun c4 => ?_) (fun c4 => ?_)
  · refine V_bipush dX5_put_16 lb_m2 ?_
    exact V_ireturn dX5_put_18 rfl (hQ _ _ ⟨_, rfl, ⟨by unfold putP; rw [if_neg c4], by unfold putP; rw [if_neg c4]⟩⟩)
  · obtain ⟨s, hs, rfl⟩ := bd_I (by decide) c4
    have hvs : vN (nI s) = s := vN_nI (by omega)
    refine V_iload_n dX5_put_7 rfl ?_
    refine V_iconst dX5_put_8 li_0 ?_
    refine V_iconst dX5_put_9 li_2 ?_
    refine Vs_callIF (m_in l _ _ _) dX5_put_10 (lw_S q1308 q1309 q103 q1310) hs_X5_in (by decide) rfl (Nat.le_of_ble_eq_true rfl) ?_
    refine V_if_neB (tgt := 19) dX5_put_13 (by decide) (fun c13 => ?_) (fun c13 => ?_)
    · refine V_aload_n dX5_put_19 rfl ?_
      refine V_iload_n dX5_put_20 rfl ?_
      refine V_iload_n dX5_put_21 rfl ?_
      refine V_iload_n dX5_put_22 rfl ?_
      refine Vm_callIF (m_lacks l _ s form i (by omega)) dX5_put_23 (lw_V q1636 q1638 qs88 q103 q1639) hv_X5_lacks (by decide) rfl (Nat.le_of_ble_eq_true rfl) ?_
      refine V_istore dX5_put_26 rfl (Nat.le_of_ble_eq_true rfl) (Nat.le_of_ble_eq_true rfl) ?_
      refine V_iload dX5_put_28 rfl ?_
      refine V_if_le (tgt := 40) dX5_put_30 (by decide) (fun c30 => ?_) (fun c30 => ?_)
      · obtain ⟨q, rfl, hq⟩ := lack0 (hz s (by omega)) c30
        have hvq : vN (nI q) = q := vN_nI (by omega)
        refine V_aload_n dX5_put_40 rfl ?_
        refine V_iload_n dX5_put_41 rfl ?_
        refine V_iload_n dX5_put_42 rfl ?_
        refine V_iload dX5_put_43 rfl ?_
        refine Vm_callVF (m_lays l _ s _ v (by omega) hq) dX5_put_45 (lw_V q1640 q1642 qs89 q103 q1643) hv_X5_lays (by decide) rfl (Nat.le_of_ble_eq_true rfl) ?_
        refine V_iconst dX5_put_48 li_1 ?_
        exact V_ireturn dX5_put_49 rfl (hQ _ _ ⟨_, rfl, ⟨by unfold putP; rw [if_pos c4, if_pos c13, hvs, if_pos c30, hvq], by unfold putP; rw [if_pos c4, if_pos c13, hvs, if_pos c30, hvq]⟩⟩)
      · refine V_aload_n dX5_put_33 rfl ?_
        refine V_iload dX5_put_34 rfl ?_
        refine Vm_callIF (m_meets l _ _) dX5_put_36 (lw_V q1400 q1402 qs53 q103 q1403) hv_X5_meets (by decide) rfl (Nat.le_of_ble_eq_true rfl) ?_
        exact V_ireturn dX5_put_39 rfl (hQ _ _ ⟨_, rfl, ⟨by unfold putP; rw [if_pos c4, if_pos c13, hvs, if_neg c30], by unfold putP; rw [if_pos c4, if_pos c13, hvs, if_neg c30]⟩⟩)
    · refine V_bipush dX5_put_16 lb_m2 ?_
      exact V_ireturn dX5_put_18 rfl (hQ _ _ ⟨_, rfl, ⟨by unfold putP; rw [if_pos c4, if_neg c13], by unfold putP; rw [if_pos c4, if_neg c13]⟩⟩)
set_option maxHeartbeats 4000000 in
theorem m_get (l : Launch) (S : xSt) (s form i : Int32) (hz : zS S) : Cm l yX5_get cX5_get 5 (some .int) 2 [.int s, .int form, .int i] S (fun r S' => ∃ x, r = some (.int x) ∧ x = (getP s form i S).1 ∧ S' = (getP s form i S).2) := by
  refine Cm_start (ls := [some (.ref 1000), some (.int s), some (.int form), some (.int i), none]) (by decide) rfl (Nat.le_of_ble_eq_true rfl) ?_
  intro Q hQ
  refine V_iload_n dX5_get_0 rfl ?_
  refine Vs_callIF (m_isSheet l _) dX5_get_1 (lw_S q1397 q1398 q103 q1399) hs_X5_isSheet (by decide) rfl (Nat.le_of_ble_eq_true rfl) ?_
  refine V_if_eqB (tgt := 16) dX5_get_4 (by decide) (fun c4 => ?_) (fun c4 => ?_)
  · refine V_ldcw dX5_get_16 q1648 ?_
    exact V_ireturn dX5_get_19 rfl (hQ _ _ ⟨_, rfl, ⟨by unfold getP; rw [if_neg c4], by unfold getP; rw [if_neg c4]⟩⟩)
  · obtain ⟨s, hs, rfl⟩ := bd_I (by decide) c4
    have hvs : vN (nI s) = s := vN_nI (by omega)
    refine V_iload_n dX5_get_7 rfl ?_
    refine V_iconst dX5_get_8 li_0 ?_
    refine V_iconst dX5_get_9 li_2 ?_
    refine Vs_callIF (m_in l _ _ _) dX5_get_10 (lw_S q1308 q1309 q103 q1310) hs_X5_in (by decide) rfl (Nat.le_of_ble_eq_true rfl) ?_
    refine V_if_neB (tgt := 20) dX5_get_13 (by decide) (fun c13 => ?_) (fun c13 => ?_)
    · refine V_aload_n dX5_get_20 rfl ?_
      refine V_iload_n dX5_get_21 rfl ?_
      refine V_iload_n dX5_get_22 rfl ?_
      refine V_iload_n dX5_get_23 rfl ?_
      refine Vm_callIF (m_lacks l _ s form i (by omega)) dX5_get_24 (lw_V q1636 q1638 qs88 q103 q1639) hv_X5_lacks (by decide) rfl (Nat.le_of_ble_eq_true rfl) ?_
      refine V_istore dX5_get_27 rfl (Nat.le_of_ble_eq_true rfl) (Nat.le_of_ble_eq_true rfl) ?_
      refine V_iload dX5_get_29 rfl ?_
      refine V_if_le (tgt := 44) dX5_get_31 (by decide) (fun c31 => ?_) (fun c31 => ?_)
      · obtain ⟨q, rfl, hq⟩ := lack0 (hz s (by omega)) c31
        have hvq : vN (nI q) = q := vN_nI (by omega)
        refine V_aload_n dX5_get_44 rfl ?_
        refine Vm_getA 42 dX5_get_45 q1206 (by decide) ?_
        refine V_bipush dX5_get_48 lb_60 ?_
        refine V_iload_n dX5_get_50 rfl ?_
        refine V_imulN dX5_get_51 ?_
        refine V_iload_n dX5_get_52 rfl ?_
        refine V_iaddN dX5_get_53 ?_
        refine Vm_iald dX5_get_54 rfl (by show _ < 240; omega) (by decide) ?_
        exact V_ireturn dX5_get_55 rfl (hQ _ _ ⟨_, rfl, ⟨by unfold getP; rw [if_pos c4, if_pos c13, hvs, if_pos c31, hvq], by unfold getP; rw [if_pos c4, if_pos c13, hvs, if_pos c31, hvq]⟩⟩)
      · refine V_aload_n dX5_get_34 rfl ?_
        refine V_iload dX5_get_35 rfl ?_
        refine Vm_putI 44 dX5_get_37 q1208 (by decide) ?_
        refine V_ldcw dX5_get_40 q1648 ?_
        exact V_ireturn dX5_get_43 rfl (hQ _ _ ⟨_, rfl, ⟨by unfold getP; rw [if_pos c4, if_pos c13, hvs, if_neg c31], by unfold getP; rw [if_pos c4, if_pos c13, hvs, if_neg c31]⟩⟩)
    · refine V_ldcw dX5_get_16 q1648 ?_
      exact V_ireturn dX5_get_19 rfl (hQ _ _ ⟨_, rfl, ⟨by unfold getP; rw [if_pos c4, if_neg c13], by unfold getP; rw [if_pos c4, if_neg c13]⟩⟩)
theorem cp_le {a b z : Nat} (ha : a < 2 ^ 31) (hb : b < 2 ^ 31) (hz : z < 2 ^ 31) (h : lg_cmp ((nI a).toInt64 + (nI b).toInt64) (nI z).toInt64 ≤ 0) : a + b ≤ z := by
  rw [nI_l ha, nI_l hb, nI_l hz, lN_add] at h
  exact (pk_lLE (by omega) (by omega)).mp ((lg_cmp_le _ _).mp h)
theorem cp_nle {a b z : Nat} (ha : a < 2 ^ 31) (hb : b < 2 ^ 31) (hz : z < 2 ^ 31) (h : ¬ 0 < lg_cmp ((nI a).toInt64 + (nI b).toInt64) (nI z).toInt64) : a + b ≤ z := by
  rw [nI_l ha, nI_l hb, nI_l hz, lN_add] at h
  exact (pk_lLE (by omega) (by omega)).mp (Int64.not_lt.mp fun q => h ((lg_cmp_gt _ _).mpr q))

set_option maxHeartbeats 4000000 in
theorem m_copy (l : Launch) (S : xSt) (s i t j n : Int32) (hz : zS S) : Cm l yX5_copy cX5_copy 7 (some .int) 2 [.int s, .int i, .int t, .int j, .int n] S (fun r S' => ∃ x, r = some (.int x) ∧ x = (copyP s i t j n S).1 ∧ S' = (copyP s i t j n S).2) := by
  refine Cm_start (ls := [some (.ref 1000), some (.int s), some (.int i), some (.int t), some (.int j), some (.int n), none]) (by decide) rfl (Nat.le_of_ble_eq_true rfl) ?_
  intro Q hQ
  refine V_iload_n dX5_copy_0 rfl ?_
  refine Vs_callIF (m_isSheet l _) dX5_copy_1 (lw_S q1397 q1398 q103 q1399) hs_X5_isSheet (by decide) rfl (Nat.le_of_ble_eq_true rfl) ?_
  refine V_if_eqB (tgt := 14) dX5_copy_4 (by decide) (fun c4 => ?_) (fun c4 => ?_)
  · refine V_bipush dX5_copy_14 lb_m2 ?_
    exact V_ireturn dX5_copy_16 rfl (hQ _ _ ⟨_, rfl, ⟨by unfold copyP; rw [if_neg c4], by unfold copyP; rw [if_neg c4]⟩⟩)
  · obtain ⟨s, hs, rfl⟩ := bd_I (by decide) c4
    have hvs : vN (nI s) = s := vN_nI (by omega)
    refine V_iload_n dX5_copy_7 rfl ?_
    refine Vs_callIF (m_isSheet l _) dX5_copy_8 (lw_S q1397 q1398 q103 q1399) hs_X5_isSheet (by decide) rfl (Nat.le_of_ble_eq_true rfl) ?_
    refine V_if_neB (tgt := 17) dX5_copy_11 (by decide) (fun c11 => ?_) (fun c11 => ?_)
    · obtain ⟨t, ht, rfl⟩ := bd_I (by decide) c11
      have hvt : vN (nI t) = t := vN_nI (by omega)
      refine V_aload_n dX5_copy_17 rfl ?_
      refine Vm_getA 39 dX5_copy_18 q1203 (by decide) ?_
      refine V_iload_n dX5_copy_21 rfl ?_
      refine Vm_zald dX5_copy_22 (by first | rfl | assumption) (by show _ < 4; omega) (by decide) ?_
      refine V_if_eq (tgt := 35) dX5_copy_23 (by decide) (fun c23 => ?_) (fun c23 => ?_)
      · refine V_aload_n dX5_copy_35 rfl ?_
        refine V_iconst dX5_copy_36 li_1 ?_
        refine Vm_callIF (m_meets l _ 1) dX5_copy_37 (lw_V q1400 q1402 qs53 q103 q1403) hv_X5_meets (by decide) rfl (Nat.le_of_ble_eq_true rfl) ?_
        exact V_ireturn dX5_copy_40 rfl (hQ _ _ ⟨_, rfl, ⟨by unfold copyP; rw [if_pos c4, if_pos c11, hvs, if_pos c23], by unfold copyP; rw [if_pos c4, if_pos c11, hvs, if_pos c23]⟩⟩)
      · refine V_aload_n dX5_copy_26 rfl ?_
        refine Vm_getA 39 dX5_copy_27 q1203 (by decide) ?_
        refine V_iload_n dX5_copy_30 rfl ?_
        refine Vm_zald dX5_copy_31 (by first | rfl | assumption) (by show _ < 4; omega) (by decide) ?_
        refine V_if_ne (tgt := 41) dX5_copy_32 (by decide) (fun c32 => ?_) (fun c32 => ?_)
        · refine V_aload_n dX5_copy_41 rfl ?_
          refine Vm_getA 40 dX5_copy_42 q1204 (by decide) ?_
          refine V_iload_n dX5_copy_45 rfl ?_
          refine Vm_iald dX5_copy_46 (by first | rfl | assumption) (by show _ < 4; omega) (by decide) ?_
          refine V_aload_n dX5_copy_47 rfl ?_
          refine Vm_getA 40 dX5_copy_48 q1204 (by decide) ?_
          refine V_iload_n dX5_copy_51 rfl ?_
          refine Vm_iald dX5_copy_52 (by first | rfl | assumption) (by show _ < 4; omega) (by decide) ?_
          refine V_icmp_eq (tgt := 62) dX5_copy_53 (by decide) (fun c53 => ?_) (fun c53 => ?_)
          · refine V_iload_n dX5_copy_62 rfl ?_
            refine V_if_lt (tgt := 111) dX5_copy_63 (by decide) (fun c63 => ?_) (fun c63 => ?_)
            · refine V_aload_n dX5_copy_111 rfl ?_
              refine V_iconst dX5_copy_112 li_2 ?_
              refine Vm_callIF (m_meets l _ 2) dX5_copy_113 (lw_V q1400 q1402 qs53 q103 q1403) hv_X5_meets (by decide) rfl (Nat.le_of_ble_eq_true rfl) ?_
              exact V_ireturn dX5_copy_116 rfl (hQ _ _ ⟨_, rfl, ⟨by unfold copyP copyR; rw [if_pos c4, if_pos c11, hvs, hvt, if_neg c23, if_neg c32, if_pos c53, if_pos c63], by unfold copyP copyR; rw [if_pos c4, if_pos c11, hvs, hvt, if_neg c23, if_neg c32, if_pos c53, if_pos c63]⟩⟩)
            · refine V_iload dX5_copy_66 rfl ?_
              refine V_if_lt (tgt := 111) dX5_copy_68 (by decide) (fun c68 => ?_) (fun c68 => ?_)
              · refine V_aload_n dX5_copy_111 rfl ?_
                refine V_iconst dX5_copy_112 li_2 ?_
                refine Vm_callIF (m_meets l _ 2) dX5_copy_113 (lw_V q1400 q1402 qs53 q103 q1403) hv_X5_meets (by decide) rfl (Nat.le_of_ble_eq_true rfl) ?_
                exact V_ireturn dX5_copy_116 rfl (hQ _ _ ⟨_, rfl, ⟨by unfold copyP copyR; rw [if_pos c4, if_pos c11, hvs, hvt, if_neg c23, if_neg c32, if_pos c53, if_neg c63, if_pos c68], by unfold copyP copyR; rw [if_pos c4, if_pos c11, hvs, hvt, if_neg c23, if_neg c32, if_pos c53, if_neg c63, if_pos c68]⟩⟩)
              · refine V_iload dX5_copy_71 rfl ?_
                refine V_if_lt (tgt := 111) dX5_copy_73 (by decide) (fun c73 => ?_) (fun c73 => ?_)
                · refine V_aload_n dX5_copy_111 rfl ?_
                  refine V_iconst dX5_copy_112 li_2 ?_
                  refine Vm_callIF (m_meets l _ 2) dX5_copy_113 (lw_V q1400 q1402 qs53 q103 q1403) hv_X5_meets (by decide) rfl (Nat.le_of_ble_eq_true rfl) ?_
                  exact V_ireturn dX5_copy_116 rfl (hQ _ _ ⟨_, rfl, ⟨by unfold copyP copyR; rw [if_pos c4, if_pos c11, hvs, hvt, if_neg c23, if_neg c32, if_pos c53, if_neg c63, if_neg c68, if_pos c73], by unfold copyP copyR; rw [if_pos c4, if_pos c11, hvs, hvt, if_neg c23, if_neg c32, if_pos c53, if_neg c63, if_neg c68, if_pos c73]⟩⟩)
                · refine V_iload_n dX5_copy_76 rfl ?_
                  refine V_i2l dX5_copy_77 rfl ?_
                  refine V_iload dX5_copy_78 rfl ?_
                  refine V_i2l dX5_copy_80 rfl ?_
                  refine V_ladd dX5_copy_81 ?_
                  refine V_aload_n dX5_copy_82 rfl ?_
                  refine Vm_getA 41 dX5_copy_83 q1205 (by decide) ?_
                  refine V_iload_n dX5_copy_86 rfl ?_
                  refine Vm_iald dX5_copy_87 (by first | rfl | assumption) (by show _ < 4; omega) (by decide) ?_
                  refine V_i2l dX5_copy_88 rfl ?_
                  refine V_lcmp dX5_copy_89 ?_
                  refine V_if_gt (tgt := 111) dX5_copy_90 (by decide) (fun c90 => ?_) (fun c90 => ?_)
                  · refine V_aload_n dX5_copy_111 rfl ?_
                    refine V_iconst dX5_copy_112 li_2 ?_
                    refine Vm_callIF (m_meets l _ 2) dX5_copy_113 (lw_V q1400 q1402 qs53 q103 q1403) hv_X5_meets (by decide) rfl (Nat.le_of_ble_eq_true rfl) ?_
                    exact V_ireturn dX5_copy_116 rfl (hQ _ _ ⟨_, rfl, ⟨by unfold copyP copyR; rw [if_pos c4, if_pos c11, hvs, hvt, if_neg c23, if_neg c32, if_pos c53, if_neg c63, if_neg c68, if_neg c73, if_pos c90], by unfold copyP copyR; rw [if_pos c4, if_pos c11, hvs, hvt, if_neg c23, if_neg c32, if_pos c53, if_neg c63, if_neg c68, if_neg c73, if_pos c90]⟩⟩)
                  · refine V_iload dX5_copy_93 rfl ?_
                    refine V_i2l dX5_copy_95 rfl ?_
                    refine V_iload dX5_copy_96 rfl ?_
                    refine V_i2l dX5_copy_98 rfl ?_
                    refine V_ladd dX5_copy_99 ?_
                    refine V_aload_n dX5_copy_100 rfl ?_
                    refine Vm_getA 41 dX5_copy_101 q1205 (by decide) ?_
                    refine V_iload_n dX5_copy_104 rfl ?_
                    refine Vm_iald dX5_copy_105 (by first | rfl | assumption) (by show _ < 4; omega) (by decide) ?_
                    refine V_i2l dX5_copy_106 rfl ?_
                    refine V_lcmp dX5_copy_107 ?_
                    refine V_if_le (tgt := 117) dX5_copy_108 (by decide) (fun c108 => ?_) (fun c108 => ?_)
                    · obtain ⟨i, hi, rfl⟩ := nI_of c63
                      obtain ⟨j, hj, rfl⟩ := nI_of c68
                      obtain ⟨n, hn, rfl⟩ := nI_of c73
                      obtain ⟨z1, hz1, hs0⟩ := hz s (by omega)
                      obtain ⟨z2, hz2, ht0⟩ := hz t (by omega)
                      have hb1 : i + n ≤ z1 := cp_nle hi hn (by omega) (by rw [← hs0]; exact c90)
                      have hb2 : j + n ≤ z2 := cp_le hj hn (by omega) (by rw [← ht0]; exact c108)
                      have hvi : vN (nI i) = i := vN_nI hi
                      have hvj : vN (nI j) = j := vN_nI hj
                      have hvn : vN (nI n) = n := vN_nI hn
                      have L157 : ∀ (q k : Nat) (S1 : xSt) (hq : k + q = n) (hR : itF (mvI t j) q k S1 = copyT s i t j n S), V l (yX5_copy.cls, cX5_copy, 7, (some .int), [], yX5_copy.name) (rmD 2 0 0, xF0, Q, xX0) 157 [some (.ref 1000), some (.int (nI s)), some (.int (nI i)), some (.int (nI t)), some (.int (nI j)), some (.int (nI n)), some (.int (nI k))] [] (mW S1) 0 0 := by
                        intro q
                        induction q with
                        | zero =>
                          intro k S1 hq hR
                          refine V_iload dX5_copy_157 rfl ?_
                          refine V_iload dX5_copy_159 rfl ?_
                          refine V_icmp_ge (tgt := 192) dX5_copy_161 (by decide) (fun _ => ?_) (fun c161 => absurd (nI_le (by omega) (by omega)) c161)
                          refine V_iconst dX5_copy_192 li_1 ?_
                          exact V_ireturn dX5_copy_193 rfl (hQ _ _ ⟨_, rfl, ⟨by unfold copyP copyR; rw [if_pos c4, if_pos c11, hvs, hvt, if_neg c23, if_neg c32, if_pos c53, if_neg c63, if_neg c68, if_neg c73, if_neg c90, if_pos c108, hvi, hvj, hvn], by unfold copyP copyR; rw [if_pos c4, if_pos c11, hvs, hvt, if_neg c23, if_neg c32, if_pos c53, if_neg c63, if_neg c68, if_neg c73, if_neg c90, if_pos c108, hvi, hvj, hvn, ← hR]; rfl⟩⟩)
                        | succ q ih =>
                          intro k S1 hq hR
                          refine V_iload dX5_copy_157 rfl ?_
                          refine V_iload dX5_copy_159 rfl ?_
                          refine V_icmp_ge (tgt := 192) dX5_copy_161 (by decide) (fun c161 => absurd c161 (nI_ge (by omega) (by omega))) (fun _ => ?_)
                          refine V_aload_n dX5_copy_164 rfl ?_
                          refine Vm_getA 42 dX5_copy_165 q1206 (by decide) ?_
                          refine V_bipush dX5_copy_168 lb_60 ?_
                          refine V_iload_n dX5_copy_170 rfl ?_
                          refine V_imulN dX5_copy_171 ?_
                          refine V_iload dX5_copy_172 rfl ?_
                          refine V_iaddN dX5_copy_174 ?_
                          refine V_iload dX5_copy_175 rfl ?_
                          refine V_iaddN dX5_copy_177 ?_
                          refine V_aload_n dX5_copy_178 rfl ?_
                          refine Vm_getA 43 dX5_copy_179 q1207 (by decide) ?_
                          refine V_iload dX5_copy_182 rfl ?_
                          refine Vm_iald dX5_copy_184 (by first | rfl | assumption) (by show _ < 60; omega) (by decide) ?_
                          refine Vm_iast dX5_copy_185 rfl (by show _ < 240; omega) (by decide) ?_
                          refine V_iinc dX5_copy_186 rfl (iinc_1 _) rfl (Nat.le_of_ble_eq_true rfl) ?_
                          refine V_goto (tgt := 157) dX5_copy_189 (by decide) ?_
                          exact ih (k + 1) _ (by omega) hR
                      have L120 : ∀ (q k : Nat) (S1 : xSt) (hq : k + q = n) (hR : itF (moI s i) q k S1 = itF (moI s i) n 0 S), V l (yX5_copy.cls, cX5_copy, 7, (some .int), [], yX5_copy.name) (rmD 2 0 0, xF0, Q, xX0) 120 [some (.ref 1000), some (.int (nI s)), some (.int (nI i)), some (.int (nI t)), some (.int (nI j)), some (.int (nI n)), some (.int (nI k))] [] (mW S1) 0 0 := by
                        intro q
                        induction q with
                        | zero =>
                          intro k S1 hq hR
                          refine V_iload dX5_copy_120 rfl ?_
                          refine V_iload dX5_copy_122 rfl ?_
                          refine V_icmp_ge (tgt := 154) dX5_copy_124 (by decide) (fun _ => ?_) (fun c124 => absurd (nI_le (by omega) (by omega)) c124)
                          refine V_iconst dX5_copy_154 li_0 ?_
                          refine V_istore dX5_copy_155 rfl (Nat.le_of_ble_eq_true rfl) (Nat.le_of_ble_eq_true rfl) ?_
                          exact L157 n 0 S1 (by omega) (by unfold copyT; rw [← hR]; rfl)
                        | succ q ih =>
                          intro k S1 hq hR
                          refine V_iload dX5_copy_120 rfl ?_
                          refine V_iload dX5_copy_122 rfl ?_
                          refine V_icmp_ge (tgt := 154) dX5_copy_124 (by decide) (fun c124 => absurd c124 (nI_ge (by omega) (by omega))) (fun _ => ?_)
                          refine V_aload_n dX5_copy_127 rfl ?_
                          refine Vm_getA 43 dX5_copy_128 q1207 (by decide) ?_
                          refine V_iload dX5_copy_131 rfl ?_
                          refine V_aload_n dX5_copy_133 rfl ?_
                          refine Vm_getA 42 dX5_copy_134 q1206 (by decide) ?_
                          refine V_bipush dX5_copy_137 lb_60 ?_
                          refine V_iload_n dX5_copy_139 rfl ?_
                          refine V_imulN dX5_copy_140 ?_
                          refine V_iload_n dX5_copy_141 rfl ?_
                          refine V_iaddN dX5_copy_142 ?_
                          refine V_iload dX5_copy_143 rfl ?_
                          refine V_iaddN dX5_copy_145 ?_
                          refine Vm_iald dX5_copy_146 rfl (by show _ < 240; omega) (by decide) ?_
                          refine Vm_iast dX5_copy_147 (by first | rfl | assumption) (by show _ < 60; omega) (by decide) ?_
                          refine V_iinc dX5_copy_148 rfl (iinc_1 _) rfl (Nat.le_of_ble_eq_true rfl) ?_
                          refine V_goto (tgt := 120) dX5_copy_151 (by decide) ?_
                          exact ih (k + 1) _ (by omega) hR
                      refine V_iconst dX5_copy_117 li_0 ?_
                      refine V_istore dX5_copy_118 rfl (Nat.le_of_ble_eq_true rfl) (Nat.le_of_ble_eq_true rfl) ?_
                      exact L120 n 0 S (by omega) rfl
                    · refine V_aload_n dX5_copy_111 rfl ?_
                      refine V_iconst dX5_copy_112 li_2 ?_
                      refine Vm_callIF (m_meets l _ 2) dX5_copy_113 (lw_V q1400 q1402 qs53 q103 q1403) hv_X5_meets (by decide) rfl (Nat.le_of_ble_eq_true rfl) ?_
                      exact V_ireturn dX5_copy_116 rfl (hQ _ _ ⟨_, rfl, ⟨by unfold copyP copyR; rw [if_pos c4, if_pos c11, hvs, hvt, if_neg c23, if_neg c32, if_pos c53, if_neg c63, if_neg c68, if_neg c73, if_neg c90, if_neg c108], by unfold copyP copyR; rw [if_pos c4, if_pos c11, hvs, hvt, if_neg c23, if_neg c32, if_pos c53, if_neg c63, if_neg c68, if_neg c73, if_neg c90, if_neg c108]⟩⟩)
          · refine V_aload_n dX5_copy_56 rfl ?_
            refine V_iconst dX5_copy_57 li_4 ?_
            refine Vm_callIF (m_meets l _ 4) dX5_copy_58 (lw_V q1400 q1402 qs53 q103 q1403) hv_X5_meets (by decide) rfl (Nat.le_of_ble_eq_true rfl) ?_
            exact V_ireturn dX5_copy_61 rfl (hQ _ _ ⟨_, rfl, ⟨by unfold copyP; rw [if_pos c4, if_pos c11, hvs, hvt, if_neg c23, if_neg c32, if_neg c53], by unfold copyP; rw [if_pos c4, if_pos c11, hvs, hvt, if_neg c23, if_neg c32, if_neg c53]⟩⟩)
        · refine V_aload_n dX5_copy_35 rfl ?_
          refine V_iconst dX5_copy_36 li_1 ?_
          refine Vm_callIF (m_meets l _ 1) dX5_copy_37 (lw_V q1400 q1402 qs53 q103 q1403) hv_X5_meets (by decide) rfl (Nat.le_of_ble_eq_true rfl) ?_
          exact V_ireturn dX5_copy_40 rfl (hQ _ _ ⟨_, rfl, ⟨by unfold copyP; rw [if_pos c4, if_pos c11, hvs, hvt, if_neg c23, if_pos c32], by unfold copyP; rw [if_pos c4, if_pos c11, hvs, hvt, if_neg c23, if_pos c32]⟩⟩)
    · refine V_bipush dX5_copy_14 lb_m2 ?_
      exact V_ireturn dX5_copy_16 rfl (hQ _ _ ⟨_, rfl, ⟨by unfold copyP; rw [if_pos c4, if_neg c11], by unfold copyP; rw [if_pos c4, if_neg c11]⟩⟩)
set_option maxHeartbeats 4000000 in
theorem m_write (l : Launch) (S : xSt) (k s : Int32) (hS : MI S) : Cm l yX5_write cX5_write 4 (some .int) 8 [.int k, .int s] S (fun r S' => ∃ x, r = some (.int x) ∧ x = (writeP k s S).1 ∧ S' = (writeP k s S).2) := by
  refine Cm_start (ls := [some (.ref 1000), some (.int k), some (.int s), none]) (by decide) rfl (Nat.le_of_ble_eq_true rfl) ?_
  intro Q hQ
  have hRp := (RD_p hS).1
  have hMR := MI_reads hS
  have hI := m_isPerson l S k hS.1
  have hz := (MI_RT hMR).2.2.2.2.2.2.2.2.2.2.2.2
  have hT := m_runsTold l _ hMR
  refine V_aload_n dX5_write_0 rfl ?_
  refine V_iload_n dX5_write_1 rfl ?_
  refine Vm_callIF hI dX5_write_2 (lw_V q1347 q1349 qs48 q103 q1350) hv_X5_isPerson (by decide) rfl (Nat.le_of_ble_eq_true rfl) ?_
  refine V_if_eqB (tgt := 15) dX5_write_5 (by decide) (fun c5 => ?_) (fun c5 => ?_)
  · refine V_bipush dX5_write_15 lb_m2 ?_
    exact V_ireturn dX5_write_17 rfl (hQ _ _ ⟨_, rfl, ⟨by unfold writeP; rw [if_neg c5], by unfold writeP; rw [if_neg c5]⟩⟩)
  · obtain ⟨k, rfl, -, hk⟩ := bd_in (n := 8) (by decide) hRp c5
    have hvk : vN (nI k) = k := vN_nI (by omega)
    refine V_iload_n dX5_write_8 rfl ?_
    refine Vs_callIF (m_isSheet l _) dX5_write_9 (lw_S q1397 q1398 q103 q1399) hs_X5_isSheet (by decide) rfl (Nat.le_of_ble_eq_true rfl) ?_
    refine V_if_neB (tgt := 18) dX5_write_12 (by decide) (fun c12 => ?_) (fun c12 => ?_)
    · obtain ⟨s, hs, rfl⟩ := bd_I (by decide) c12
      have hvs : vN (nI s) = s := vN_nI (by omega)
      refine V_aload_n dX5_write_18 rfl ?_
      refine Vm_getA 39 dX5_write_19 q1203 (by decide) ?_
      refine V_iload_n dX5_write_22 rfl ?_
      refine Vm_zald dX5_write_23 (by first | rfl | assumption) (by show _ < 4; omega) (by decide) ?_
      refine V_if_ne (tgt := 33) dX5_write_24 (by decide) (fun c24 => ?_) (fun c24 => ?_)
      · generalize hY : RT (readsF S) = Y at hT hz
        obtain ⟨zz, hzz, hz0⟩ := hz s (by omega)
        have hvz : vN (Y 41 s) = zz := by rw [hz0]; exact vN_nI (by omega)
        have L39 : ∀ (j n : Nat) (S1 : xSt) (hj : n + j = min zz 24) (hz1 : S1 41 s = nI zz) (hR : itF (wrI k s) j n S1 = itF (wrI k s) (min zz 24) 0 Y), V l (yX5_write.cls, cX5_write, 4, (some .int), [], yX5_write.name) (rmD 8 0 0, xF0, Q, xX0) 39 [some (.ref 1000), some (.int (nI k)), some (.int (nI s)), some (.int (nI n))] [] (mW S1) 0 0 := by
          intro j
          induction j with
          | zero =>
            intro n S1 hj hz1 hR
            refine V_iload_n dX5_write_39 rfl ?_
            refine V_aload_n dX5_write_40 rfl ?_
            refine Vm_getA 41 dX5_write_41 q1205 (by decide) ?_
            refine V_iload_n dX5_write_44 rfl ?_
            refine Vm_iald dX5_write_45 (by first | rfl | assumption) (by show _ < 4; omega) (by decide) ?_
            refine V_topi hz1 ?_
            refine V_icmp_geN (tgt := 78) dX5_write_46 (by decide) (by omega) (by omega) (fun c46 => ?_) (fun c46 => ?_)
            · refine V_iload_n dX5_write_78 rfl ?_
              exact V_ireturn dX5_write_79 rfl (hQ _ _ ⟨_, rfl, ⟨by unfold writeP writeT; rw [if_pos c5, if_pos c12, hvk, hvs, if_neg c24, hY, hvz, show min zz 24 = n by omega], by unfold writeP writeT; rw [if_pos c5, if_pos c12, hvk, hvs, if_neg c24, hY, hvz, ← hR]; rfl⟩⟩)
            · refine V_iload_n dX5_write_49 rfl ?_
              refine V_bipush dX5_write_50 lb_24 ?_
              refine V_icmp_ge (tgt := 78) dX5_write_52 (by decide) (fun _ => ?_) (fun c52 => absurd (nI_le (by omega) (by omega)) c52)
              refine V_iload_n dX5_write_78 rfl ?_
              exact V_ireturn dX5_write_79 rfl (hQ _ _ ⟨_, rfl, ⟨by unfold writeP writeT; rw [if_pos c5, if_pos c12, hvk, hvs, if_neg c24, hY, hvz, show min zz 24 = n by omega], by unfold writeP writeT; rw [if_pos c5, if_pos c12, hvk, hvs, if_neg c24, hY, hvz, ← hR]; rfl⟩⟩)
          | succ j ih =>
            intro n S1 hj hz1 hR
            refine V_iload_n dX5_write_39 rfl ?_
            refine V_aload_n dX5_write_40 rfl ?_
            refine Vm_getA 41 dX5_write_41 q1205 (by decide) ?_
            refine V_iload_n dX5_write_44 rfl ?_
            refine Vm_iald dX5_write_45 (by first | rfl | assumption) (by show _ < 4; omega) (by decide) ?_
            refine V_topi hz1 ?_
            refine V_icmp_ge (tgt := 78) dX5_write_46 (by decide) (fun c46 => absurd c46 (nI_ge (by omega) (by omega))) (fun _ => ?_)
            refine V_iload_n dX5_write_49 rfl ?_
            refine V_bipush dX5_write_50 lb_24 ?_
            refine V_icmp_ge (tgt := 78) dX5_write_52 (by decide) (fun c52 => absurd c52 (nI_ge (by omega) (by omega))) (fun _ => ?_)
            refine V_aload_n dX5_write_55 rfl ?_
            refine V_iload_n dX5_write_56 rfl ?_
            refine V_iload_n dX5_write_57 rfl ?_
            refine V_aload_n dX5_write_58 rfl ?_
            refine Vm_getA 30 dX5_write_59 q1194 (by decide) ?_
            refine V_bipush dX5_write_62 lb_8 ?_
            refine V_iload_n dX5_write_64 rfl ?_
            refine V_imulN dX5_write_65 ?_
            refine V_iload_n dX5_write_66 rfl ?_
            refine V_iaddN dX5_write_67 ?_
            refine Vm_iald dX5_write_68 (by first | rfl | assumption) (by show _ < 192; omega) (by decide) ?_
            refine Vm_callVF (m_lays l _ s n _ (by omega) (by omega)) dX5_write_69 (lw_V q1640 q1642 qs89 q103 q1643) hv_X5_lays (by decide) rfl (Nat.le_of_ble_eq_true rfl) ?_
            refine V_iinc dX5_write_72 rfl (iinc_1 _) rfl (Nat.le_of_ble_eq_true rfl) ?_
            refine V_goto (tgt := 39) dX5_write_75 (by decide) ?_
            exact ih (n + 1) _ (by omega) ((congrFun (mwr_R _ _ _ (by decide)) s).trans hz1) hR
        refine V_aload_n dX5_write_33 rfl ?_
        refine Vm_callVF hT dX5_write_34 (lw_V q1413 q1415 qs55 q103 q1416) hv_X5_runsTold (by decide) rfl (Nat.le_of_ble_eq_true rfl) ?_
        refine V_iconst dX5_write_37 li_0 ?_
        refine V_istore_n dX5_write_38 rfl (Nat.le_of_ble_eq_true rfl) (Nat.le_of_ble_eq_true rfl) ?_
        exact L39 (min zz 24) 0 Y (by omega) hz0 rfl
      · refine V_aload_n dX5_write_27 rfl ?_
        refine V_iconst dX5_write_28 li_1 ?_
        refine Vm_callIF (m_meets l _ 1) dX5_write_29 (lw_V q1400 q1402 qs53 q103 q1403) hv_X5_meets (by decide) rfl (Nat.le_of_ble_eq_true rfl) ?_
        exact V_ireturn dX5_write_32 rfl (hQ _ _ ⟨_, rfl, ⟨by unfold writeP; rw [if_pos c5, if_pos c12, hvs, if_pos c24], by unfold writeP; rw [if_pos c5, if_pos c12, hvs, if_pos c24]⟩⟩)
    · refine V_bipush dX5_write_15 lb_m2 ?_
      exact V_ireturn dX5_write_17 rfl (hQ _ _ ⟨_, rfl, ⟨by unfold writeP; rw [if_pos c5, if_neg c12], by unfold writeP; rw [if_pos c5, if_neg c12]⟩⟩)
def sumP (what : Int32) (S : xSt) : Int32 × xSt := (if what = 0 then readsF S 2 0 else readsF S 5 0, readsF S)
def countP (what : Int32) (S : xSt) : Int32 × xSt := if what = nI 0 then sumP (nI 0) S else if what = nI 1 then sumP (nI 1) S else if what = nI 2 then (S 0 0, S) else if what = nI 3 then (S 0 1, S) else if what = nI 4 then (S 10 0, S) else if what = nI 5 then (S 13 0, S) else if what = nI 6 then (S 17 0, S) else if what = nI 7 then (S 34 0, S) else if what = nI 8 then (S 44 0, S) else (-2, S)
theorem in9 (x : Int32) : (∃ k, k < 9 ∧ x = nI k) ∨ ((x.toInt < 0 ∨ 8 < x.toInt) ∧ ∀ k, k < 9 → ¬ x = nI k) := by
  by_cases h : ∃ k, k < 9 ∧ x = nI k
  · exact .inl h
  · refine .inr ⟨?_, fun k hk e => h ⟨k, hk, e⟩⟩
    by_cases h1 : x.toInt < 0
    · exact .inl h1
    · right
      have h0 : ¬ x < 0 := fun q => h1 (Int32.lt_iff_toInt_lt.mp q)
      obtain ⟨j, hj, rfl⟩ := nI_of h0
      rw [nI_toInt hj]
      by_cases h9 : j < 9
      · exact absurd ⟨j, h9, rfl⟩ h
      · omega
set_option maxHeartbeats 4000000 in
theorem m_sumOf (l : Launch) (S : xSt) (what : Int32) (hS : tI S) : Cm l yX5_sumOf cX5_sumOf 2 (some .int) 6 [.int what] S (fun r S' => ∃ x, r = some (.int x) ∧ x = (sumP what S).1 ∧ S' = (sumP what S).2) := by
  refine Cm_start (ls := [some (.ref 1000), some (.int what)]) (by decide) rfl (Nat.le_of_ble_eq_true rfl) ?_
  intro Q hQ
  refine V_aload_n dX5_sumOf_0 rfl ?_
  refine Vm_callVF (m_reads l _ hS) dX5_sumOf_1 (lw_V q1351 q1353 qs49 q103 q1354) hv_X5_reads (by decide) rfl (Nat.le_of_ble_eq_true rfl) ?_
  refine V_iload_n dX5_sumOf_4 rfl ?_
  refine V_if_ne (tgt := 15) dX5_sumOf_5 (by decide) (fun c5 => ?_) (fun c5 => ?_)
  · refine V_aload_n dX5_sumOf_15 rfl ?_
    refine Vm_getI 5 dX5_sumOf_16 q1169 (by decide) ?_
    exact V_ireturn dX5_sumOf_19 rfl (hQ _ _ ⟨_, rfl, ⟨by unfold sumP; rw [if_neg c5], rfl⟩⟩)
  · refine V_aload_n dX5_sumOf_8 rfl ?_
    refine Vm_getI 2 dX5_sumOf_9 q1166 (by decide) ?_
    refine V_goto (tgt := 19) dX5_sumOf_12 (by decide) ?_
    exact V_ireturn dX5_sumOf_19 rfl (hQ _ _ ⟨_, rfl, ⟨by unfold sumP; rw [if_pos c5], rfl⟩⟩)
set_option maxHeartbeats 4000000 in
theorem m_count (l : Launch) (S : xSt) (what : Int32) (hS : tI S) : Cm l yX5_count cX5_count 2 (some .int) 7 [.int what] S (fun r S' => ∃ x, r = some (.int x) ∧ x = (countP what S).1 ∧ S' = (countP what S).2) := by
  refine Cm_start (ls := [some (.ref 1000), some (.int what)]) (by decide) rfl (Nat.le_of_ble_eq_true rfl) ?_
  intro Q hQ
  rcases in9 what with ⟨k, hk, rfl⟩ | ⟨ho, hne⟩
  · match k, hk with
    | 0, _ =>
      refine V_iload_n dX5_count_0 rfl ?_
      refine V_tableIn (off := 51) (tgt := 52) dX5_count_1 (by decide +kernel) (by decide +kernel) (by decide +kernel) (by decide) ?_
      refine V_aload_n dX5_count_52 rfl ?_
      refine V_iload_n dX5_count_53 rfl ?_
      refine Vm_callIF (m_sumOf l _ (nI 0) hS) dX5_count_54 (lw_V q1661 q1663 qs90 q103 q1664) hv_X5_sumOf (by decide) rfl (Nat.le_of_ble_eq_true rfl) ?_
      exact V_ireturn dX5_count_57 rfl (hQ _ _ ⟨_, rfl, ⟨by unfold countP; rw [if_pos rfl], by unfold countP; rw [if_pos rfl]⟩⟩)
    | 1, _ =>
      refine V_iload_n dX5_count_0 rfl ?_
      refine V_tableIn (off := 51) (tgt := 52) dX5_count_1 (by decide +kernel) (by decide +kernel) (by decide +kernel) (by decide) ?_
      refine V_aload_n dX5_count_52 rfl ?_
      refine V_iload_n dX5_count_53 rfl ?_
      refine Vm_callIF (m_sumOf l _ (nI 1) hS) dX5_count_54 (lw_V q1661 q1663 qs90 q103 q1664) hv_X5_sumOf (by decide) rfl (Nat.le_of_ble_eq_true rfl) ?_
      exact V_ireturn dX5_count_57 rfl (hQ _ _ ⟨_, rfl, ⟨by unfold countP; rw [if_neg (show ¬ nI 1 = nI 0 by decide +kernel), if_pos rfl], by unfold countP; rw [if_neg (show ¬ nI 1 = nI 0 by decide +kernel), if_pos rfl]⟩⟩)
    | 2, _ =>
      refine V_iload_n dX5_count_0 rfl ?_
      refine V_tableIn (off := 57) (tgt := 58) dX5_count_1 (by decide +kernel) (by decide +kernel) (by decide +kernel) (by decide) ?_
      refine V_aload_n dX5_count_58 rfl ?_
      refine Vm_getA 0 dX5_count_59 q1164 (by decide) ?_
      refine V_iload_n dX5_count_62 rfl ?_
      refine V_iconst dX5_count_63 li_2 ?_
      refine V_isubN dX5_count_64 (by omega) ?_
      refine V_topi (show nI 2 - nI 2 = nI 0 from by decide +kernel) ?_
      refine Vm_iald dX5_count_65 rfl (by show _ < 2; omega) (by decide) ?_
      exact V_ireturn dX5_count_66 rfl (hQ _ _ ⟨_, rfl, ⟨by unfold countP; rw [if_neg (show ¬ nI 2 = nI 0 by decide +kernel), if_neg (show ¬ nI 2 = nI 1 by decide +kernel), if_pos rfl], by unfold countP; rw [if_neg (show ¬ nI 2 = nI 0 by decide +kernel), if_neg (show ¬ nI 2 = nI 1 by decide +kernel), if_pos rfl]⟩⟩)
    | 3, _ =>
      refine V_iload_n dX5_count_0 rfl ?_
      refine V_tableIn (off := 57) (tgt := 58) dX5_count_1 (by decide +kernel) (by decide +kernel) (by decide +kernel) (by decide) ?_
      refine V_aload_n dX5_count_58 rfl ?_
      refine Vm_getA 0 dX5_count_59 q1164 (by decide) ?_
      refine V_iload_n dX5_count_62 rfl ?_
      refine V_iconst dX5_count_63 li_2 ?_
      refine V_isubN dX5_count_64 (by omega) ?_
      refine V_topi (show nI 3 - nI 2 = nI 1 from by decide +kernel) ?_
      refine Vm_iald dX5_count_65 rfl (by show _ < 2; omega) (by decide) ?_
      exact V_ireturn dX5_count_66 rfl (hQ _ _ ⟨_, rfl, ⟨by unfold countP; rw [if_neg (show ¬ nI 3 = nI 0 by decide +kernel), if_neg (show ¬ nI 3 = nI 1 by decide +kernel), if_neg (show ¬ nI 3 = nI 2 by decide +kernel), if_pos rfl], by unfold countP; rw [if_neg (show ¬ nI 3 = nI 0 by decide +kernel), if_neg (show ¬ nI 3 = nI 1 by decide +kernel), if_neg (show ¬ nI 3 = nI 2 by decide +kernel), if_pos rfl]⟩⟩)
    | 4, _ =>
      refine V_iload_n dX5_count_0 rfl ?_
      refine V_tableIn (off := 66) (tgt := 67) dX5_count_1 (by decide +kernel) (by decide +kernel) (by decide +kernel) (by decide) ?_
      refine V_aload_n dX5_count_67 rfl ?_
      refine Vm_getI 10 dX5_count_68 q1174 (by decide) ?_
      exact V_ireturn dX5_count_71 rfl (hQ _ _ ⟨_, rfl, ⟨by unfold countP; rw [if_neg (show ¬ nI 4 = nI 0 by decide +kernel), if_neg (show ¬ nI 4 = nI 1 by decide +kernel), if_neg (show ¬ nI 4 = nI 2 by decide +kernel), if_neg (show ¬ nI 4 = nI 3 by decide +kernel), if_pos rfl], by unfold countP; rw [if_neg (show ¬ nI 4 = nI 0 by decide +kernel), if_neg (show ¬ nI 4 = nI 1 by decide +kernel), if_neg (show ¬ nI 4 = nI 2 by decide +kernel), if_neg (show ¬ nI 4 = nI 3 by decide +kernel), if_pos rfl]⟩⟩)
    | 5, _ =>
      refine V_iload_n dX5_count_0 rfl ?_
      refine V_tableIn (off := 71) (tgt := 72) dX5_count_1 (by decide +kernel) (by decide +kernel) (by decide +kernel) (by decide) ?_
      refine V_aload_n dX5_count_72 rfl ?_
      refine Vm_getI 13 dX5_count_73 q1177 (by decide) ?_
      exact V_ireturn dX5_count_76 rfl (hQ _ _ ⟨_, rfl, ⟨by unfold countP; rw [if_neg (show ¬ nI 5 = nI 0 by decide +kernel), if_neg (show ¬ nI 5 = nI 1 by decide +kernel), if_neg (show ¬ nI 5 = nI 2 by decide +kernel), if_neg (show ¬ nI 5 = nI 3 by decide +kernel), if_neg (show ¬ nI 5 = nI 4 by decide +kernel), if_pos rfl], by unfold countP; rw [if_neg (show ¬ nI 5 = nI 0 by decide +kernel), if_neg (show ¬ nI 5 = nI 1 by decide +kernel), if_neg (show ¬ nI 5 = nI 2 by decide +kernel), if_neg (show ¬ nI 5 = nI 3 by decide +kernel), if_neg (show ¬ nI 5 = nI 4 by decide +kernel), if_pos rfl]⟩⟩)
    | 6, _ =>
      refine V_iload_n dX5_count_0 rfl ?_
      refine V_tableIn (off := 76) (tgt := 77) dX5_count_1 (by decide +kernel) (by decide +kernel) (by decide +kernel) (by decide) ?_
      refine V_aload_n dX5_count_77 rfl ?_
      refine Vm_getI 17 dX5_count_78 q1181 (by decide) ?_
      exact V_ireturn dX5_count_81 rfl (hQ _ _ ⟨_, rfl, ⟨by unfold countP; rw [if_neg (show ¬ nI 6 = nI 0 by decide +kernel), if_neg (show ¬ nI 6 = nI 1 by decide +kernel), if_neg (show ¬ nI 6 = nI 2 by decide +kernel), if_neg (show ¬ nI 6 = nI 3 by decide +kernel), if_neg (show ¬ nI 6 = nI 4 by decide +kernel), if_neg (show ¬ nI 6 = nI 5 by decide +kernel), if_pos rfl], by unfold countP; rw [if_neg (show ¬ nI 6 = nI 0 by decide +kernel), if_neg (show ¬ nI 6 = nI 1 by decide +kernel), if_neg (show ¬ nI 6 = nI 2 by decide +kernel), if_neg (show ¬ nI 6 = nI 3 by decide +kernel), if_neg (show ¬ nI 6 = nI 4 by decide +kernel), if_neg (show ¬ nI 6 = nI 5 by decide +kernel), if_pos rfl]⟩⟩)
    | 7, _ =>
      refine V_iload_n dX5_count_0 rfl ?_
      refine V_tableIn (off := 81) (tgt := 82) dX5_count_1 (by decide +kernel) (by decide +kernel) (by decide +kernel) (by decide) ?_
      refine V_aload_n dX5_count_82 rfl ?_
      refine Vm_getI 34 dX5_count_83 q1198 (by decide) ?_
      exact V_ireturn dX5_count_86 rfl (hQ _ _ ⟨_, rfl, ⟨by unfold countP; rw [if_neg (show ¬ nI 7 = nI 0 by decide +kernel), if_neg (show ¬ nI 7 = nI 1 by decide +kernel), if_neg (show ¬ nI 7 = nI 2 by decide +kernel), if_neg (show ¬ nI 7 = nI 3 by decide +kernel), if_neg (show ¬ nI 7 = nI 4 by decide +kernel), if_neg (show ¬ nI 7 = nI 5 by decide +kernel), if_neg (show ¬ nI 7 = nI 6 by decide +kernel), if_pos rfl], by unfold countP; rw [if_neg (show ¬ nI 7 = nI 0 by decide +kernel), if_neg (show ¬ nI 7 = nI 1 by decide +kernel), if_neg (show ¬ nI 7 = nI 2 by decide +kernel), if_neg (show ¬ nI 7 = nI 3 by decide +kernel), if_neg (show ¬ nI 7 = nI 4 by decide +kernel), if_neg (show ¬ nI 7 = nI 5 by decide +kernel), if_neg (show ¬ nI 7 = nI 6 by decide +kernel), if_pos rfl]⟩⟩)
    | 8, _ =>
      refine V_iload_n dX5_count_0 rfl ?_
      refine V_tableIn (off := 86) (tgt := 87) dX5_count_1 (by decide +kernel) (by decide +kernel) (by decide +kernel) (by decide) ?_
      refine V_aload_n dX5_count_87 rfl ?_
      refine Vm_getI 44 dX5_count_88 q1208 (by decide) ?_
      exact V_ireturn dX5_count_91 rfl (hQ _ _ ⟨_, rfl, ⟨by unfold countP; rw [if_neg (show ¬ nI 8 = nI 0 by decide +kernel), if_neg (show ¬ nI 8 = nI 1 by decide +kernel), if_neg (show ¬ nI 8 = nI 2 by decide +kernel), if_neg (show ¬ nI 8 = nI 3 by decide +kernel), if_neg (show ¬ nI 8 = nI 4 by decide +kernel), if_neg (show ¬ nI 8 = nI 5 by decide +kernel), if_neg (show ¬ nI 8 = nI 6 by decide +kernel), if_neg (show ¬ nI 8 = nI 7 by decide +kernel), if_pos rfl], by unfold countP; rw [if_neg (show ¬ nI 8 = nI 0 by decide +kernel), if_neg (show ¬ nI 8 = nI 1 by decide +kernel), if_neg (show ¬ nI 8 = nI 2 by decide +kernel), if_neg (show ¬ nI 8 = nI 3 by decide +kernel), if_neg (show ¬ nI 8 = nI 4 by decide +kernel), if_neg (show ¬ nI 8 = nI 5 by decide +kernel), if_neg (show ¬ nI 8 = nI 6 by decide +kernel), if_neg (show ¬ nI 8 = nI 7 by decide +kernel), if_pos rfl]⟩⟩)
    | n + 9, h => exact absurd h (by omega)
  · refine V_iload_n dX5_count_0 rfl ?_
    refine V_tableOut (tgt := 92) dX5_count_1 ho (by decide) ?_
    refine V_bipush dX5_count_92 lb_m2 ?_
    exact V_ireturn dX5_count_94 rfl (hQ _ _ ⟨_, rfl, ⟨by unfold countP; rw [if_neg (hne 0 (by decide)), if_neg (hne 1 (by decide)), if_neg (hne 2 (by decide)), if_neg (hne 3 (by decide)), if_neg (hne 4 (by decide)), if_neg (hne 5 (by decide)), if_neg (hne 6 (by decide)), if_neg (hne 7 (by decide)), if_neg (hne 8 (by decide))], by unfold countP; rw [if_neg (hne 0 (by decide)), if_neg (hne 1 (by decide)), if_neg (hne 2 (by decide)), if_neg (hne 3 (by decide)), if_neg (hne 4 (by decide)), if_neg (hne 5 (by decide)), if_neg (hne 6 (by decide)), if_neg (hne 7 (by decide)), if_neg (hne 8 (by decide))]⟩⟩)
