/-! the model's small methods -/
set_option maxRecDepth 100000
/-- an int that is a small natural -/
def bd (x : Int32) (n : Nat) : Prop := ∃ j, j ≤ n ∧ x = nI j
theorem bd_le {x : Int32} {n m : Nat} (h : bd x n) (hm : n ≤ m) : bd x m := by obtain ⟨j, a, b⟩ := h; exact ⟨j, Nat.le_trans a hm, b⟩
theorem bd_I {x : Int32} {n : Nat} (hn : n < 2 ^ 31) (h : nI 0 ≤ x ∧ x ≤ nI n) : bd x n := by
  obtain ⟨j, h1, h2⟩ := nI_of2 (M := nI n) (nI_toInt hn) (Int32.not_lt.mpr h.1) h.2
  exact ⟨j, h1, h2⟩
theorem nI_in2 {n m : Nat} (h : n ≤ m) (hm : m < 2 ^ 31) : nI 0 ≤ nI n ∧ nI n ≤ nI m := ⟨nI_le (Nat.zero_le n) (by omega), nI_le h hm⟩
def clampI (x : Int32) : Int32 := if 0 ≤ x then (if x ≤ nI 99 then x else nI 99) else nI 0
def lenI (sort great : Int32) : Int32 := if sort = 0 then great / nI 2 else if sort = nI 1 then nI 2 * great else great
/-- a coat cut -/
def cutS (k : Nat) (x : Int32) (S : xSt) : xSt := mwr S 27 k (clampI (S 27 k + x))
def tbF (S : xSt) (t k : Nat) : Int32 := if S 0 t ≤ nI k then -1 else S 1 (49 * t + k)

set_option maxHeartbeats 4000000 in
theorem m_in (l : Launch) (v lo hi : Int32) : Cms l yX5_in cX5_in 3 (some .boolean) 0 [.int v, .int lo, .int hi] (fun r => ∃ x, r = some (.int x) ∧ x = bI (lo ≤ v ∧ v ≤ hi)) := by
  refine Cms_start (ls := [some (.int v), some (.int lo), some (.int hi)]) (by decide) rfl (Nat.le_of_ble_eq_true rfl) ?_
  intro w Q hQ
  refine V_iload_n dX5_in_0 rfl ?_
  refine V_iload_n dX5_in_1 rfl ?_
  refine V_icmp_lt (tgt := 14) dX5_in_2 (by decide) (fun c2 => ?_) (fun c2 => ?_)
  · refine V_iconst dX5_in_14 li_0 ?_
    exact V_zreturn dX5_in_15 rfl (by first | exact bI_nr | exact nr_0 | exact nr_1) (hQ _ ⟨_, rfl, bI_f fun z => Int32.not_lt.mpr z.1 c2⟩)
  · refine V_iload_n dX5_in_5 rfl ?_
    refine V_iload_n dX5_in_6 rfl ?_
    refine V_icmp_gt (tgt := 14) dX5_in_7 (by decide) (fun c7 => ?_) (fun c7 => ?_)
    · refine V_iconst dX5_in_14 li_0 ?_
      exact V_zreturn dX5_in_15 rfl (by first | exact bI_nr | exact nr_0 | exact nr_1) (hQ _ ⟨_, rfl, bI_f fun z => Int32.not_lt.mpr z.2 c7⟩)
    · refine V_iconst dX5_in_10 li_1 ?_
      refine V_goto (tgt := 15) dX5_in_11 (by decide) ?_
      exact V_zreturn dX5_in_15 rfl (by first | exact bI_nr | exact nr_0 | exact nr_1) (hQ _ ⟨_, rfl, bI_t ⟨Int32.not_lt.mp c2, Int32.not_lt.mp c7⟩⟩)
/-- bit k of bits -/
abbrev isI (bits k : Int32) : Prop := (bits >>> (k &&& 31)) &&& nI 1 = nI 1
set_option maxHeartbeats 4000000 in
theorem m_isIn (l : Launch) (bits k : Int32) : Cms l yX5_isIn cX5_isIn 2 (some .boolean) 0 [.int bits, .int k] (fun r => ∃ x, r = some (.int x) ∧ x = bI (isI bits k)) := by
  refine Cms_start (ls := [some (.int bits), some (.int k)]) (by decide) rfl (Nat.le_of_ble_eq_true rfl) ?_
  intro w Q hQ
  refine V_iload_n dX5_isIn_0 rfl ?_
  refine V_iload_n dX5_isIn_1 rfl ?_
  refine V_ishr dX5_isIn_2 ?_
  refine V_iconst dX5_isIn_3 li_1 ?_
  refine V_iand dX5_isIn_4 ?_
  refine V_iconst dX5_isIn_5 li_1 ?_
  refine V_icmp_ne (tgt := 13) dX5_isIn_6 (by decide) (fun c6 => ?_) (fun c6 => ?_)
  · refine V_iconst dX5_isIn_13 li_0 ?_
    exact V_zreturn dX5_isIn_14 rfl (by first | exact bI_nr | exact nr_0 | exact nr_1) (hQ _ ⟨_, rfl, bI_f c6⟩)
  · refine V_iconst dX5_isIn_9 li_1 ?_
    refine V_goto (tgt := 14) dX5_isIn_10 (by decide) ?_
    exact V_zreturn dX5_isIn_14 rfl (by first | exact bI_nr | exact nr_0 | exact nr_1) (hQ _ ⟨_, rfl, bI_t c6⟩)
set_option maxHeartbeats 4000000 in
theorem m_isText (l : Launch) (v : Int32) : Cms l yX5_isText cX5_isText 1 (some .boolean) 1 [.int v] (fun r => ∃ x, r = some (.int x) ∧ x = bI (nI 0 ≤ v ∧ v ≤ nI 1)) := by
  refine Cms_start (ls := [some (.int v)]) (by decide) rfl (Nat.le_of_ble_eq_true rfl) ?_
  intro w Q hQ
  refine V_iload_n dX5_isText_0 rfl ?_
  refine V_iconst dX5_isText_1 li_0 ?_
  refine V_iconst dX5_isText_2 li_1 ?_
  refine Vs_callIF (m_in l _ _ _) dX5_isText_3 (lw_S q1308 q1309 q103 q1310) hs_X5_in (by decide) rfl (Nat.le_of_ble_eq_true rfl) ?_
  exact V_zreturn dX5_isText_6 rfl (by first | exact bI_nr | exact nr_0 | exact nr_1) (hQ _ ⟨_, rfl, rfl⟩)
set_option maxHeartbeats 4000000 in
theorem m_isDay (l : Launch) (v : Int32) : Cms l yX5_isDay cX5_isDay 1 (some .boolean) 1 [.int v] (fun r => ∃ x, r = some (.int x) ∧ x = bI (nI 0 ≤ v ∧ v ≤ nI 23)) := by
  refine Cms_start (ls := [some (.int v)]) (by decide) rfl (Nat.le_of_ble_eq_true rfl) ?_
  intro w Q hQ
  refine V_iload_n dX5_isDay_0 rfl ?_
  refine V_iconst dX5_isDay_1 li_0 ?_
  refine V_bipush dX5_isDay_2 lb_23 ?_
  refine Vs_callIF (m_in l _ _ _) dX5_isDay_4 (lw_S q1308 q1309 q103 q1310) hs_X5_in (by decide) rfl (Nat.le_of_ble_eq_true rfl) ?_
  exact V_zreturn dX5_isDay_7 rfl (by first | exact bI_nr | exact nr_0 | exact nr_1) (hQ _ ⟨_, rfl, rfl⟩)
set_option maxHeartbeats 4000000 in
theorem m_isEight (l : Launch) (v : Int32) : Cms l yX5_isEight cX5_isEight 1 (some .boolean) 1 [.int v] (fun r => ∃ x, r = some (.int x) ∧ x = bI (nI 0 ≤ v ∧ v ≤ nI 7)) := by
  refine Cms_start (ls := [some (.int v)]) (by decide) rfl (Nat.le_of_ble_eq_true rfl) ?_
  intro w Q hQ
  refine V_iload_n dX5_isEight_0 rfl ?_
  refine V_iconst dX5_isEight_1 li_0 ?_
  refine V_bipush dX5_isEight_2 lb_7 ?_
  refine Vs_callIF (m_in l _ _ _) dX5_isEight_4 (lw_S q1308 q1309 q103 q1310) hs_X5_in (by decide) rfl (Nat.le_of_ble_eq_true rfl) ?_
  exact V_zreturn dX5_isEight_7 rfl (by first | exact bI_nr | exact nr_0 | exact nr_1) (hQ _ ⟨_, rfl, rfl⟩)
set_option maxHeartbeats 4000000 in
theorem m_isSheet (l : Launch) (v : Int32) : Cms l yX5_isSheet cX5_isSheet 1 (some .boolean) 1 [.int v] (fun r => ∃ x, r = some (.int x) ∧ x = bI (nI 0 ≤ v ∧ v ≤ nI 3)) := by
  refine Cms_start (ls := [some (.int v)]) (by decide) rfl (Nat.le_of_ble_eq_true rfl) ?_
  intro w Q hQ
  refine V_iload_n dX5_isSheet_0 rfl ?_
  refine V_iconst dX5_isSheet_1 li_0 ?_
  refine V_iconst dX5_isSheet_2 li_3 ?_
  refine Vs_callIF (m_in l _ _ _) dX5_isSheet_3 (lw_S q1308 q1309 q103 q1310) hs_X5_in (by decide) rfl (Nat.le_of_ble_eq_true rfl) ?_
  exact V_zreturn dX5_isSheet_6 rfl (by first | exact bI_nr | exact nr_0 | exact nr_1) (hQ _ ⟨_, rfl, rfl⟩)
set_option maxHeartbeats 4000000 in
theorem m_no (l : Launch) (v : Int32) : Cms l yX5_no cX5_no 1 (some .long) 0 [.int v] (fun r => ∃ x, r = some (.long x) ∧ x = -9223372036854775808 - v.toInt64) := by
  refine Cms_start (ls := [some (.int v)]) (by decide) rfl (Nat.le_of_ble_eq_true rfl) ?_
  intro w Q hQ
  refine V_ldc2 dX5_no_0 q1614 ?_
  refine V_iload_n dX5_no_3 rfl ?_
  refine V_i2l dX5_no_4 rfl ?_
  refine V_lsub dX5_no_5 ?_
  exact V_lreturn dX5_no_6 rfl (hQ _ ⟨_, rfl, rfl⟩)
set_option maxHeartbeats 4000000 in
theorem m_changes (l : Launch) (S : xSt) (k : Nat) (x : Int32) (hk : k < 8) : Cm l yX5_changes cX5_changes 4 none 0 [.int (nI k), .int x] S (fun r S' => r = none ∧ S' = cutS k x S) := by
  refine Cm_start (ls := [some (.ref 1000), some (.int (nI k)), some (.int x), none]) (by decide) rfl (Nat.le_of_ble_eq_true rfl) ?_
  intro Q hQ
  refine V_aload_n dX5_changes_0 rfl ?_
  refine Vm_getA 27 dX5_changes_1 q1191 (by decide) ?_
  refine V_iload_n dX5_changes_4 rfl ?_
  refine Vm_iald dX5_changes_5 (by first | rfl | assumption) (by show _ < 8; omega) (by decide) ?_
  refine V_iload_n dX5_changes_6 rfl ?_
  refine V_iadd dX5_changes_7 ?_
  refine V_istore_n dX5_changes_8 rfl (Nat.le_of_ble_eq_true rfl) (Nat.le_of_ble_eq_true rfl) ?_
  refine V_aload_n dX5_changes_9 rfl ?_
  refine Vm_getA 27 dX5_changes_10 q1191 (by decide) ?_
  refine V_iload_n dX5_changes_13 rfl ?_
  refine V_iload_n dX5_changes_14 rfl ?_
  refine V_if_ge (tgt := 22) dX5_changes_15 (by decide) (fun c15 => ?_) (fun c15 => ?_)
  · refine V_iload_n dX5_changes_22 rfl ?_
    refine V_bipush dX5_changes_23 lb_99 ?_
    refine V_icmp_le (tgt := 33) dX5_changes_25 (by decide) (fun c25 => ?_) (fun c25 => ?_)
    · refine V_iload_n dX5_changes_33 rfl ?_
      refine Vm_iast dX5_changes_34 (by first | rfl | assumption) (by show _ < 8; omega) (by decide) ?_
      exact V_vreturn dX5_changes_35 rfl (hQ _ _ ⟨rfl, by unfold cutS clampI; rw [if_pos c15, if_pos c25]⟩)
    · refine V_bipush dX5_changes_28 lb_99 ?_
      refine V_goto (tgt := 34) dX5_changes_30 (by decide) ?_
      refine Vm_iast dX5_changes_34 (by first | rfl | assumption) (by show _ < 8; omega) (by decide) ?_
      exact V_vreturn dX5_changes_35 rfl (hQ _ _ ⟨rfl, by unfold cutS clampI; rw [if_pos c15, if_neg c25]⟩)
  · refine V_iconst dX5_changes_18 li_0 ?_
    refine V_goto (tgt := 34) dX5_changes_19 (by decide) ?_
    refine Vm_iast dX5_changes_34 (by first | rfl | assumption) (by show _ < 8; omega) (by decide) ?_
    exact V_vreturn dX5_changes_35 rfl (hQ _ _ ⟨rfl, by unfold cutS clampI; rw [if_neg c15]⟩)
set_option maxHeartbeats 4000000 in
theorem m_lengthOf (l : Launch) (S : xSt) (p : Nat) (w : Nat) (hp : p < 12) (hw : w < 8) (hwho : S 6 p = nI w) : Cm l yX5_lengthOf cX5_lengthOf 3 (some .int) 0 [.int (nI p)] S (fun r S' => ∃ x, r = some (.int x) ∧ x = lenI (S 3 w) (S 7 p) ∧ S' = S) := by
  refine Cm_start (ls := [some (.ref 1000), some (.int (nI p)), none]) (by decide) rfl (Nat.le_of_ble_eq_true rfl) ?_
  intro Q hQ
  refine V_aload_n dX5_lengthOf_0 rfl ?_
  refine Vm_getA 3 dX5_lengthOf_1 q1167 (by decide) ?_
  refine V_aload_n dX5_lengthOf_4 rfl ?_
  refine Vm_getA 6 dX5_lengthOf_5 q1170 (by decide) ?_
  refine V_iload_n dX5_lengthOf_8 rfl ?_
  refine Vm_iald dX5_lengthOf_9 (by first | rfl | assumption) (by show _ < 12; omega) (by decide) ?_
  refine Vm_iald dX5_lengthOf_10 hwho (by show _ < 9; omega) (by decide) ?_
  refine V_istore_n dX5_lengthOf_11 rfl (Nat.le_of_ble_eq_true rfl) (Nat.le_of_ble_eq_true rfl) ?_
  refine V_iload_n dX5_lengthOf_12 rfl ?_
  refine V_if_ne (tgt := 27) dX5_lengthOf_13 (by decide) (fun c13 => ?_) (fun c13 => ?_)
  · refine V_iload_n dX5_lengthOf_27 rfl ?_
    refine V_iconst dX5_lengthOf_28 li_1 ?_
    refine V_icmp_ne (tgt := 43) dX5_lengthOf_29 (by decide) (fun c29 => ?_) (fun c29 => ?_)
    · refine V_aload_n dX5_lengthOf_43 rfl ?_
      refine Vm_getA 7 dX5_lengthOf_44 q1171 (by decide) ?_
      refine V_iload_n dX5_lengthOf_47 rfl ?_
      refine Vm_iald dX5_lengthOf_48 (by first | rfl | assumption) (by show _ < 12; omega) (by decide) ?_
      exact V_ireturn dX5_lengthOf_49 rfl (hQ _ _ ⟨_, rfl, ⟨by unfold lenI; rw [if_neg c13, if_neg c29], rfl⟩⟩)
    · refine V_iconst dX5_lengthOf_32 li_2 ?_
      refine V_aload_n dX5_lengthOf_33 rfl ?_
      refine Vm_getA 7 dX5_lengthOf_34 q1171 (by decide) ?_
      refine V_iload_n dX5_lengthOf_37 rfl ?_
      refine Vm_iald dX5_lengthOf_38 (by first | rfl | assumption) (by show _ < 12; omega) (by decide) ?_
      refine V_imul dX5_lengthOf_39 ?_
      refine V_goto (tgt := 49) dX5_lengthOf_40 (by decide) ?_
      exact V_ireturn dX5_lengthOf_49 rfl (hQ _ _ ⟨_, rfl, ⟨by unfold lenI; rw [if_neg c13, if_pos c29], rfl⟩⟩)
  · refine V_aload_n dX5_lengthOf_16 rfl ?_
    refine Vm_getA 7 dX5_lengthOf_17 q1171 (by decide) ?_
    refine V_iload_n dX5_lengthOf_20 rfl ?_
    refine Vm_iald dX5_lengthOf_21 (by first | rfl | assumption) (by show _ < 12; omega) (by decide) ?_
    refine V_iconst dX5_lengthOf_22 li_2 ?_
    refine V_idiv dX5_lengthOf_23 (by decide +kernel) ?_
    refine V_goto (tgt := 49) dX5_lengthOf_24 (by decide) ?_
    exact V_ireturn dX5_lengthOf_49 rfl (hQ _ _ ⟨_, rfl, ⟨by unfold lenI; rw [if_pos c13], rfl⟩⟩)
set_option maxHeartbeats 4000000 in
theorem m_byteAt (l : Launch) (S : xSt) (t k : Nat) (ht : t < 2) (hn : bd (S 0 t) 49) (hk : k < 2 ^ 31) : Cm l yX5_byteAt cX5_byteAt 3 (some .int) 0 [.int (nI t), .int (nI k)] S (fun r S' => ∃ x, r = some (.int x) ∧ x = tbF S t k ∧ S' = S) := by
  refine Cm_start (ls := [some (.ref 1000), some (.int (nI t)), some (.int (nI k))]) (by decide) rfl (Nat.le_of_ble_eq_true rfl) ?_
  intro Q hQ
  obtain ⟨n, hn1, hn2⟩ := hn
  refine V_iload_n dX5_byteAt_0 rfl ?_
  refine V_aload_n dX5_byteAt_1 rfl ?_
  refine Vm_getA 0 dX5_byteAt_2 q1164 (by decide) ?_
  refine V_iload_n dX5_byteAt_5 rfl ?_
  refine Vm_iald dX5_byteAt_6 (by first | rfl | assumption) (by show _ < 2; omega) (by decide) ?_
  refine V_icmp_ge (tgt := 24) dX5_byteAt_7 (by decide) (fun c7 => ?_) (fun c7 => ?_)
  · refine V_iconst dX5_byteAt_24 li_m1 ?_
    exact V_ireturn dX5_byteAt_25 rfl (hQ _ _ ⟨_, rfl, ⟨by unfold tbF; rw [if_pos c7], rfl⟩⟩)
  · refine V_aload_n dX5_byteAt_10 rfl ?_
    refine Vm_getA 1 dX5_byteAt_11 q1165 (by decide) ?_
    refine V_bipush dX5_byteAt_14 lb_49 ?_
    refine V_iload_n dX5_byteAt_16 rfl ?_
    refine V_imulN dX5_byteAt_17 ?_
    refine V_iload_n dX5_byteAt_18 rfl ?_
    refine V_iaddN dX5_byteAt_19 ?_
    refine Vm_iald dX5_byteAt_20 rfl (by rw [hn2] at c7; have := Nat.not_le.mp (fun q => c7 (nI_le q hk)); show _ < 98; omega) (by decide) ?_
    refine V_goto (tgt := 25) dX5_byteAt_21 (by decide) ?_
    exact V_ireturn dX5_byteAt_25 rfl (hQ _ _ ⟨_, rfl, ⟨by unfold tbF; rw [if_neg c7], rfl⟩⟩)
