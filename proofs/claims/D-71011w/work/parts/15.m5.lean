/-! the model: what is told, taken back, seen; sheets read -/
set_option maxRecDepth 100000
def keepingT (d p : Int32) (S : xSt) : Int32 × xSt := (nI (vN (S 10 0) + 1), mwr (mwr (mwr S 11 (vN (S 10 0)) d) 12 (vN (S 10 0)) p) 10 0 (nI (vN (S 10 0) + 1)))
def keepingP (d p : Int32) (S : xSt) : Int32 × xSt := if nI 0 ≤ d ∧ d ≤ nI 23 then (if nI 0 ≤ p ∧ p ≤ nI 9 then (if S 10 0 = nI 8 then (-4, S) else keepingT d p S) else (-2, S)) else (-2, S)
def add3 (c f : Nat) (d k m : Int32) (S : xSt) : Int32 × xSt := (nI (vN (S c 0) + 1), mwr (mwr (mwr (mwr S f (vN (S c 0)) d) (f + 1) (vN (S c 0)) k) (f + 2) (vN (S c 0)) m) c 0 (nI (vN (S c 0) + 1)))
def add3P (c f cap lo hi : Nat) (d k m : Int32) (S : xSt) : Int32 × xSt := if nI 0 ≤ d ∧ d ≤ nI 23 then (if nI 0 ≤ k ∧ k ≤ nI 7 then (if nI lo ≤ m ∧ m ≤ nI hi then (if S c 0 = nI cap then (-4, S) else add3 c f d k m S) else (-2, S)) else (-2, S)) else (-2, S)
def backN (w : Int32) (S : xSt) : Int32 := if w = 0 then S 10 0 else if w = nI 1 then S 13 0 else S 17 0
def backS (w : Int32) (S : xSt) : xSt := mwr (mwr (mwr S 10 0 (S 10 0 - (if w = 0 then nI 1 else nI 0))) 13 0 (S 13 0 - (if w = nI 1 then nI 1 else nI 0))) 17 0 (S 17 0 - (if w = nI 2 then nI 1 else nI 0))
def backP (w : Int32) (S : xSt) : Int32 × xSt := if nI 0 ≤ w ∧ w ≤ nI 2 then (if backN w S = 0 then (-3, S) else (backN w S - nI 1, backS w S)) else (-2, S)
def forgetP (S : xSt) : Int32 × xSt := (S 34 0, mwr S 34 0 (nI 0))
def meetsF (n : Nat) (S : xSt) : Int32 × xSt := (-10 - nI n, mwr S 44 0 (nI n))
def rdK (s : Nat) : Nat → Nat → xSt → Int32 × xSt
  | 0, n, S => (nI n, S)
  | f + 1, n, S => if S 41 s ≤ nI (2 * n + 1) then (nI n, S) else if (keepingP (S 42 (60 * s + 2 * n)) (S 42 (60 * s + 2 * n + 1)) S).1 ≤ 0 then (nI n, (keepingP (S 42 (60 * s + 2 * n)) (S 42 (60 * s + 2 * n + 1)) S).2) else rdK s f (n + 1) (keepingP (S 42 (60 * s + 2 * n)) (S 42 (60 * s + 2 * n + 1)) S).2
theorem rdK_s (s f n : Nat) (S : xSt) : rdK s (f + 1) n S = if S 41 s ≤ nI (2 * n + 1) then (nI n, S) else if (keepingP (S 42 (60 * s + 2 * n)) (S 42 (60 * s + 2 * n + 1)) S).1 ≤ 0 then (nI n, (keepingP (S 42 (60 * s + 2 * n)) (S 42 (60 * s + 2 * n + 1)) S).2) else rdK s f (n + 1) (keepingP (S 42 (60 * s + 2 * n)) (S 42 (60 * s + 2 * n + 1)) S).2 := rfl
def readP (s : Int32) (S : xSt) : Int32 × xSt := if nI 0 ≤ s ∧ s ≤ nI 3 then (if S 39 (vN s) = 0 then meetsF 1 S else rdK (vN s) 31 0 S) else (-2, S)

set_option maxHeartbeats 4000000 in
theorem m_keeping (l : Launch) (S : xSt) (d p : Int32) (hS : bd (S 10 0) 8) : Cm l yX5_keeping cX5_keeping 3 (some .int) 2 [.int d, .int p] S (fun r S' => ∃ x, r = some (.int x) ∧ x = (keepingP d p S).1 ∧ S' = (keepingP d p S).2) := by
  refine Cm_start (ls := [some (.ref 1000), some (.int d), some (.int p)]) (by decide) rfl (Nat.le_of_ble_eq_true rfl) ?_
  intro Q hQ
  obtain ⟨n, hn, hnt⟩ := hS
  have hv : vN (S 10 0) = n := by rw [hnt]; exact vN_nI (by omega)
  refine V_iload_n dX5_keeping_0 rfl ?_
  refine Vs_callIF (m_isDay l _) dX5_keeping_1 (lw_S q1375 q1376 q103 q1377) hs_X5_isDay (by decide) rfl (Nat.le_of_ble_eq_true rfl) ?_
  refine V_if_eqB (tgt := 17) dX5_keeping_4 (by decide) (fun c4 => ?_) (fun c4 => ?_)
  · refine V_bipush dX5_keeping_17 lb_m2 ?_
    exact V_ireturn dX5_keeping_19 rfl (hQ _ _ ⟨_, rfl, ⟨by unfold keepingP; rw [if_neg c4], by unfold keepingP; rw [if_neg c4]⟩⟩)
  · refine V_iload_n dX5_keeping_7 rfl ?_
    refine V_iconst dX5_keeping_8 li_0 ?_
    refine V_bipush dX5_keeping_9 lb_9 ?_
    refine Vs_callIF (m_in l _ _ _) dX5_keeping_11 (lw_S q1308 q1309 q103 q1310) hs_X5_in (by decide) rfl (Nat.le_of_ble_eq_true rfl) ?_
    refine V_if_neB (tgt := 20) dX5_keeping_14 (by decide) (fun c14 => ?_) (fun c14 => ?_)
    · refine V_aload_n dX5_keeping_20 rfl ?_
      refine Vm_getI 10 dX5_keeping_21 q1174 (by decide) ?_
      refine V_bipush dX5_keeping_24 lb_8 ?_
      refine V_icmp_ne (tgt := 32) dX5_keeping_26 (by decide) (fun c26 => ?_) (fun c26 => ?_)
      · have hlt : n < 8 := Nat.lt_of_le_of_ne hn (fun e => c26 (by rw [hnt, e]))
        refine V_aload_n dX5_keeping_32 rfl ?_
        refine Vm_getA 11 dX5_keeping_33 q1175 (by decide) ?_
        refine V_aload_n dX5_keeping_36 rfl ?_
        refine Vm_getI 10 dX5_keeping_37 q1174 (by decide) ?_
        refine V_topi hnt ?_
        refine V_iload_n dX5_keeping_40 rfl ?_
        refine Vm_iast dX5_keeping_41 rfl (by show _ < 9; omega) (by decide) ?_
        refine V_aload_n dX5_keeping_42 rfl ?_
        refine Vm_getA 12 dX5_keeping_43 q1176 (by decide) ?_
        refine V_aload_n dX5_keeping_46 rfl ?_
        refine Vm_getI 10 dX5_keeping_47 q1174 (by decide) ?_
        refine V_topi hnt ?_
        refine V_iload_n dX5_keeping_50 rfl ?_
        refine Vm_iast dX5_keeping_51 rfl (by show _ < 9; omega) (by decide) ?_
        refine V_aload_n dX5_keeping_52 rfl ?_
        refine V_dup dX5_keeping_53 rfl ?_
        refine Vm_getI 10 dX5_keeping_54 q1174 (by decide) ?_
        refine V_topi hnt ?_
        refine V_iconst dX5_keeping_57 li_1 ?_
        refine V_iaddN dX5_keeping_58 ?_
        refine Vm_putI 10 dX5_keeping_59 q1174 (by decide) ?_
        refine V_aload_n dX5_keeping_62 rfl ?_
        refine Vm_getI 10 dX5_keeping_63 q1174 (by decide) ?_
        rw [mwr_s]
        exact V_ireturn dX5_keeping_66 rfl (hQ _ _ ⟨_, rfl, ⟨by unfold keepingP keepingT; rw [if_pos c4, if_pos c14, if_neg c26, hv], by unfold keepingP keepingT; rw [if_pos c4, if_pos c14, if_neg c26, hv]⟩⟩)
      · refine V_bipush dX5_keeping_29 lb_m4 ?_
        exact V_ireturn dX5_keeping_31 rfl (hQ _ _ ⟨_, rfl, ⟨by unfold keepingP; rw [if_pos c4, if_pos c14, if_pos c26], by unfold keepingP; rw [if_pos c4, if_pos c14, if_pos c26]⟩⟩)
    · refine V_bipush dX5_keeping_17 lb_m2 ?_
      exact V_ireturn dX5_keeping_19 rfl (hQ _ _ ⟨_, rfl, ⟨by unfold keepingP; rw [if_pos c4, if_neg c14], by unfold keepingP; rw [if_pos c4, if_neg c14]⟩⟩)
set_option maxHeartbeats 4000000 in
theorem m_lie (l : Launch) (S : xSt) (d k m : Int32) (hS : bd (S 13 0) 6) : Cm l yX5_lie cX5_lie 4 (some .int) 2 [.int d, .int k, .int m] S (fun r S' => ∃ x, r = some (.int x) ∧ x = (add3P 13 14 6 1 9 d k m S).1 ∧ S' = (add3P 13 14 6 1 9 d k m S).2) := by
  refine Cm_start (ls := [some (.ref 1000), some (.int d), some (.int k), some (.int m)]) (by decide) rfl (Nat.le_of_ble_eq_true rfl) ?_
  intro Q hQ
  obtain ⟨n, hn, hnt⟩ := hS
  have hv : vN (S 13 0) = n := by rw [hnt]; exact vN_nI (by omega)
  refine V_iload_n dX5_lie_0 rfl ?_
  refine Vs_callIF (m_isDay l _) dX5_lie_1 (lw_S q1375 q1376 q103 q1377) hs_X5_isDay (by decide) rfl (Nat.le_of_ble_eq_true rfl) ?_
  refine V_if_eqB (tgt := 24) dX5_lie_4 (by decide) (fun c4 => ?_) (fun c4 => ?_)
  · refine V_bipush dX5_lie_24 lb_m2 ?_
    exact V_ireturn dX5_lie_26 rfl (hQ _ _ ⟨_, rfl, ⟨by unfold add3P; rw [if_neg c4], by unfold add3P; rw [if_neg c4]⟩⟩)
  · refine V_iload_n dX5_lie_7 rfl ?_
    refine Vs_callIF (m_isEight l _) dX5_lie_8 (lw_S q1382 q1383 q103 q1384) hs_X5_isEight (by decide) rfl (Nat.le_of_ble_eq_true rfl) ?_
    refine V_if_eqB (tgt := 24) dX5_lie_11 (by decide) (fun c11 => ?_) (fun c11 => ?_)
    · refine V_bipush dX5_lie_24 lb_m2 ?_
      exact V_ireturn dX5_lie_26 rfl (hQ _ _ ⟨_, rfl, ⟨by unfold add3P; rw [if_pos c4, if_neg c11], by unfold add3P; rw [if_pos c4, if_neg c11]⟩⟩)
    · refine V_iload_n dX5_lie_14 rfl ?_
      refine V_iconst dX5_lie_15 li_1 ?_
      refine V_bipush dX5_lie_16 lb_9 ?_
      refine Vs_callIF (m_in l _ _ _) dX5_lie_18 (lw_S q1308 q1309 q103 q1310) hs_X5_in (by decide) rfl (Nat.le_of_ble_eq_true rfl) ?_
      refine V_if_neB (tgt := 27) dX5_lie_21 (by decide) (fun c21 => ?_) (fun c21 => ?_)
      · refine V_aload_n dX5_lie_27 rfl ?_
        refine Vm_getI 13 dX5_lie_28 q1177 (by decide) ?_
        refine V_bipush dX5_lie_31 lb_6 ?_
        refine V_icmp_ne (tgt := 39) dX5_lie_33 (by decide) (fun c33 => ?_) (fun c33 => ?_)
        · have hlt : n < 6 := Nat.lt_of_le_of_ne hn (fun e => c33 (by rw [hnt, e]))
          refine V_aload_n dX5_lie_39 rfl ?_
          refine Vm_getA 14 dX5_lie_40 q1178 (by decide) ?_
          refine V_aload_n dX5_lie_43 rfl ?_
          refine Vm_getI 13 dX5_lie_44 q1177 (by decide) ?_
          refine V_topi hnt ?_
          refine V_iload_n dX5_lie_47 rfl ?_
          refine Vm_iast dX5_lie_48 rfl (by show _ < 6; omega) (by decide) ?_
          refine V_aload_n dX5_lie_49 rfl ?_
          refine Vm_getA 15 dX5_lie_50 q1179 (by decide) ?_
          refine V_aload_n dX5_lie_53 rfl ?_
          refine Vm_getI 13 dX5_lie_54 q1177 (by decide) ?_
          refine V_topi hnt ?_
          refine V_iload_n dX5_lie_57 rfl ?_
          refine Vm_iast dX5_lie_58 rfl (by show _ < 6; omega) (by decide) ?_
          refine V_aload_n dX5_lie_59 rfl ?_
          refine Vm_getA 16 dX5_lie_60 q1180 (by decide) ?_
          refine V_aload_n dX5_lie_63 rfl ?_
          refine Vm_getI 13 dX5_lie_64 q1177 (by decide) ?_
          refine V_topi hnt ?_
          refine V_iload_n dX5_lie_67 rfl ?_
          refine Vm_iast dX5_lie_68 rfl (by show _ < 6; omega) (by decide) ?_
          refine V_aload_n dX5_lie_69 rfl ?_
          refine V_dup dX5_lie_70 rfl ?_
          refine Vm_getI 13 dX5_lie_71 q1177 (by decide) ?_
          refine V_topi hnt ?_
          refine V_iconst dX5_lie_74 li_1 ?_
          refine V_iaddN dX5_lie_75 ?_
          refine Vm_putI 13 dX5_lie_76 q1177 (by decide) ?_
          refine V_aload_n dX5_lie_79 rfl ?_
          refine Vm_getI 13 dX5_lie_80 q1177 (by decide) ?_
          rw [mwr_s]
          exact V_ireturn dX5_lie_83 rfl (hQ _ _ ⟨_, rfl, ⟨by unfold add3P add3; rw [if_pos c4, if_pos c11, if_pos c21, if_neg c33, hv], by unfold add3P add3; rw [if_pos c4, if_pos c11, if_pos c21, if_neg c33, hv]⟩⟩)
        · refine V_bipush dX5_lie_36 lb_m4 ?_
          exact V_ireturn dX5_lie_38 rfl (hQ _ _ ⟨_, rfl, ⟨by unfold add3P; rw [if_pos c4, if_pos c11, if_pos c21, if_pos c33], by unfold add3P; rw [if_pos c4, if_pos c11, if_pos c21, if_pos c33]⟩⟩)
      · refine V_bipush dX5_lie_24 lb_m2 ?_
        exact V_ireturn dX5_lie_26 rfl (hQ _ _ ⟨_, rfl, ⟨by unfold add3P; rw [if_pos c4, if_pos c11, if_neg c21], by unfold add3P; rw [if_pos c4, if_pos c11, if_neg c21]⟩⟩)
set_option maxHeartbeats 4000000 in
theorem m_letting (l : Launch) (S : xSt) (d k m : Int32) (hS : bd (S 17 0) 6) : Cm l yX5_letting cX5_letting 4 (some .int) 2 [.int d, .int k, .int m] S (fun r S' => ∃ x, r = some (.int x) ∧ x = (add3P 17 18 6 1 9 d k m S).1 ∧ S' = (add3P 17 18 6 1 9 d k m S).2) := by
  refine Cm_start (ls := [some (.ref 1000), some (.int d), some (.int k), some (.int m)]) (by decide) rfl (Nat.le_of_ble_eq_true rfl) ?_
  intro Q hQ
  obtain ⟨n, hn, hnt⟩ := hS
  have hv : vN (S 17 0) = n := by rw [hnt]; exact vN_nI (by omega)
  refine V_iload_n dX5_letting_0 rfl ?_
  refine Vs_callIF (m_isDay l _) dX5_letting_1 (lw_S q1375 q1376 q103 q1377) hs_X5_isDay (by decide) rfl (Nat.le_of_ble_eq_true rfl) ?_
  refine V_if_eqB (tgt := 24) dX5_letting_4 (by decide) (fun c4 => ?_) (fun c4 => ?_)
  · refine V_bipush dX5_letting_24 lb_m2 ?_
    exact V_ireturn dX5_letting_26 rfl (hQ _ _ ⟨_, rfl, ⟨by unfold add3P; rw [if_neg c4], by unfold add3P; rw [if_neg c4]⟩⟩)
  · refine V_iload_n dX5_letting_7 rfl ?_
    refine Vs_callIF (m_isEight l _) dX5_letting_8 (lw_S q1382 q1383 q103 q1384) hs_X5_isEight (by decide) rfl (Nat.le_of_ble_eq_true rfl) ?_
    refine V_if_eqB (tgt := 24) dX5_letting_11 (by decide) (fun c11 => ?_) (fun c11 => ?_)
    · refine V_bipush dX5_letting_24 lb_m2 ?_
      exact V_ireturn dX5_letting_26 rfl (hQ _ _ ⟨_, rfl, ⟨by unfold add3P; rw [if_pos c4, if_neg c11], by unfold add3P; rw [if_pos c4, if_neg c11]⟩⟩)
    · refine V_iload_n dX5_letting_14 rfl ?_
      refine V_iconst dX5_letting_15 li_1 ?_
      refine V_bipush dX5_letting_16 lb_9 ?_
      refine Vs_callIF (m_in l _ _ _) dX5_letting_18 (lw_S q1308 q1309 q103 q1310) hs_X5_in (by decide) rfl (Nat.le_of_ble_eq_true rfl) ?_
      refine V_if_neB (tgt := 27) dX5_letting_21 (by decide) (fun c21 => ?_) (fun c21 => ?_)
      · refine V_aload_n dX5_letting_27 rfl ?_
        refine Vm_getI 17 dX5_letting_28 q1181 (by decide) ?_
        refine V_bipush dX5_letting_31 lb_6 ?_
        refine V_icmp_ne (tgt := 39) dX5_letting_33 (by decide) (fun c33 => ?_) (fun c33 => ?_)
        · have hlt : n < 6 := Nat.lt_of_le_of_ne hn (fun e => c33 (by rw [hnt, e]))
          refine V_aload_n dX5_letting_39 rfl ?_
          refine Vm_getA 18 dX5_letting_40 q1182 (by decide) ?_
          refine V_aload_n dX5_letting_43 rfl ?_
          refine Vm_getI 17 dX5_letting_44 q1181 (by decide) ?_
          refine V_topi hnt ?_
          refine V_iload_n dX5_letting_47 rfl ?_
          refine Vm_iast dX5_letting_48 rfl (by show _ < 6; omega) (by decide) ?_
          refine V_aload_n dX5_letting_49 rfl ?_
          refine Vm_getA 19 dX5_letting_50 q1183 (by decide) ?_
          refine V_aload_n dX5_letting_53 rfl ?_
          refine Vm_getI 17 dX5_letting_54 q1181 (by decide) ?_
          refine V_topi hnt ?_
          refine V_iload_n dX5_letting_57 rfl ?_
          refine Vm_iast dX5_letting_58 rfl (by show _ < 6; omega) (by decide) ?_
          refine V_aload_n dX5_letting_59 rfl ?_
          refine Vm_getA 20 dX5_letting_60 q1184 (by decide) ?_
          refine V_aload_n dX5_letting_63 rfl ?_
          refine Vm_getI 17 dX5_letting_64 q1181 (by decide) ?_
          refine V_topi hnt ?_
          refine V_iload_n dX5_letting_67 rfl ?_
          refine Vm_iast dX5_letting_68 rfl (by show _ < 6; omega) (by decide) ?_
          refine V_aload_n dX5_letting_69 rfl ?_
          refine V_dup dX5_letting_70 rfl ?_
          refine Vm_getI 17 dX5_letting_71 q1181 (by decide) ?_
          refine V_topi hnt ?_
          refine V_iconst dX5_letting_74 li_1 ?_
          refine V_iaddN dX5_letting_75 ?_
          refine Vm_putI 17 dX5_letting_76 q1181 (by decide) ?_
          refine V_aload_n dX5_letting_79 rfl ?_
          refine Vm_getI 17 dX5_letting_80 q1181 (by decide) ?_
          rw [mwr_s]
          exact V_ireturn dX5_letting_83 rfl (hQ _ _ ⟨_, rfl, ⟨by unfold add3P add3; rw [if_pos c4, if_pos c11, if_pos c21, if_neg c33, hv], by unfold add3P add3; rw [if_pos c4, if_pos c11, if_pos c21, if_neg c33, hv]⟩⟩)
        · refine V_bipush dX5_letting_36 lb_m4 ?_
          exact V_ireturn dX5_letting_38 rfl (hQ _ _ ⟨_, rfl, ⟨by unfold add3P; rw [if_pos c4, if_pos c11, if_pos c21, if_pos c33], by unfold add3P; rw [if_pos c4, if_pos c11, if_pos c21, if_pos c33]⟩⟩)
      · refine V_bipush dX5_letting_24 lb_m2 ?_
        exact V_ireturn dX5_letting_26 rfl (hQ _ _ ⟨_, rfl, ⟨by unfold add3P; rw [if_pos c4, if_pos c11, if_neg c21], by unfold add3P; rw [if_pos c4, if_pos c11, if_neg c21]⟩⟩)
set_option maxHeartbeats 4000000 in
theorem m_seen (l : Launch) (S : xSt) (d k m : Int32) (hS : bd (S 34 0) 8) : Cm l yX5_seen cX5_seen 4 (some .int) 2 [.int d, .int k, .int m] S (fun r S' => ∃ x, r = some (.int x) ∧ x = (add3P 34 35 8 0 99 d k m S).1 ∧ S' = (add3P 34 35 8 0 99 d k m S).2) := by
  refine Cm_start (ls := [some (.ref 1000), some (.int d), some (.int k), some (.int m)]) (by decide) rfl (Nat.le_of_ble_eq_true rfl) ?_
  intro Q hQ
  obtain ⟨n, hn, hnt⟩ := hS
  have hv : vN (S 34 0) = n := by rw [hnt]; exact vN_nI (by omega)
  refine V_iload_n dX5_seen_0 rfl ?_
  refine Vs_callIF (m_isDay l _) dX5_seen_1 (lw_S q1375 q1376 q103 q1377) hs_X5_isDay (by decide) rfl (Nat.le_of_ble_eq_true rfl) ?_
  refine V_if_eqB (tgt := 24) dX5_seen_4 (by decide) (fun c4 => ?_) (fun c4 => ?_)
  · refine V_bipush dX5_seen_24 lb_m2 ?_
    exact V_ireturn dX5_seen_26 rfl (hQ _ _ ⟨_, rfl, ⟨by unfold add3P; rw [if_neg c4], by unfold add3P; rw [if_neg c4]⟩⟩)
  · refine V_iload_n dX5_seen_7 rfl ?_
    refine Vs_callIF (m_isEight l _) dX5_seen_8 (lw_S q1382 q1383 q103 q1384) hs_X5_isEight (by decide) rfl (Nat.le_of_ble_eq_true rfl) ?_
    refine V_if_eqB (tgt := 24) dX5_seen_11 (by decide) (fun c11 => ?_) (fun c11 => ?_)
    · refine V_bipush dX5_seen_24 lb_m2 ?_
      exact V_ireturn dX5_seen_26 rfl (hQ _ _ ⟨_, rfl, ⟨by unfold add3P; rw [if_pos c4, if_neg c11], by unfold add3P; rw [if_pos c4, if_neg c11]⟩⟩)
    · refine V_iload_n dX5_seen_14 rfl ?_
      refine V_iconst dX5_seen_15 li_0 ?_
      refine V_bipush dX5_seen_16 lb_99 ?_
      refine Vs_callIF (m_in l _ _ _) dX5_seen_18 (lw_S q1308 q1309 q103 q1310) hs_X5_in (by decide) rfl (Nat.le_of_ble_eq_true rfl) ?_
      refine V_if_neB (tgt := 27) dX5_seen_21 (by decide) (fun c21 => ?_) (fun c21 => ?_)
      · refine V_aload_n dX5_seen_27 rfl ?_
        refine Vm_getI 34 dX5_seen_28 q1198 (by decide) ?_
        refine V_bipush dX5_seen_31 lb_8 ?_
        refine V_icmp_ne (tgt := 39) dX5_seen_33 (by decide) (fun c33 => ?_) (fun c33 => ?_)
        · have hlt : n < 8 := Nat.lt_of_le_of_ne hn (fun e => c33 (by rw [hnt, e]))
          refine V_aload_n dX5_seen_39 rfl ?_
          refine Vm_getA 35 dX5_seen_40 q1199 (by decide) ?_
          refine V_aload_n dX5_seen_43 rfl ?_
          refine Vm_getI 34 dX5_seen_44 q1198 (by decide) ?_
          refine V_topi hnt ?_
          refine V_iload_n dX5_seen_47 rfl ?_
          refine Vm_iast dX5_seen_48 rfl (by show _ < 8; omega) (by decide) ?_
          refine V_aload_n dX5_seen_49 rfl ?_
          refine Vm_getA 36 dX5_seen_50 q1200 (by decide) ?_
          refine V_aload_n dX5_seen_53 rfl ?_
          refine Vm_getI 34 dX5_seen_54 q1198 (by decide) ?_
          refine V_topi hnt ?_
          refine V_iload_n dX5_seen_57 rfl ?_
          refine Vm_iast dX5_seen_58 rfl (by show _ < 8; omega) (by decide) ?_
          refine V_aload_n dX5_seen_59 rfl ?_
          refine Vm_getA 37 dX5_seen_60 q1201 (by decide) ?_
          refine V_aload_n dX5_seen_63 rfl ?_
          refine Vm_getI 34 dX5_seen_64 q1198 (by decide) ?_
          refine V_topi hnt ?_
          refine V_iload_n dX5_seen_67 rfl ?_
          refine Vm_iast dX5_seen_68 rfl (by show _ < 8; omega) (by decide) ?_
          refine V_aload_n dX5_seen_69 rfl ?_
          refine V_dup dX5_seen_70 rfl ?_
          refine Vm_getI 34 dX5_seen_71 q1198 (by decide) ?_
          refine V_topi hnt ?_
          refine V_iconst dX5_seen_74 li_1 ?_
          refine V_iaddN dX5_seen_75 ?_
          refine Vm_putI 34 dX5_seen_76 q1198 (by decide) ?_
          refine V_aload_n dX5_seen_79 rfl ?_
          refine Vm_getI 34 dX5_seen_80 q1198 (by decide) ?_
          rw [mwr_s]
          exact V_ireturn dX5_seen_83 rfl (hQ _ _ ⟨_, rfl, ⟨by unfold add3P add3; rw [if_pos c4, if_pos c11, if_pos c21, if_neg c33, hv], by unfold add3P add3; rw [if_pos c4, if_pos c11, if_pos c21, if_neg c33, hv]⟩⟩)
        · refine V_bipush dX5_seen_36 lb_m4 ?_
          exact V_ireturn dX5_seen_38 rfl (hQ _ _ ⟨_, rfl, ⟨by unfold add3P; rw [if_pos c4, if_pos c11, if_pos c21, if_pos c33], by unfold add3P; rw [if_pos c4, if_pos c11, if_pos c21, if_pos c33]⟩⟩)
      · refine V_bipush dX5_seen_24 lb_m2 ?_
        exact V_ireturn dX5_seen_26 rfl (hQ _ _ ⟨_, rfl, ⟨by unfold add3P; rw [if_pos c4, if_pos c11, if_neg c21], by unfold add3P; rw [if_pos c4, if_pos c11, if_neg c21]⟩⟩)
set_option maxHeartbeats 4000000 in
theorem m_back (l : Launch) (S : xSt) (w : Int32) : Cm l yX5_back cX5_back 3 (some .int) 1 [.int w] S (fun r S' => ∃ x, r = some (.int x) ∧ x = (backP w S).1 ∧ S' = (backP w S).2) := by
  refine Cm_start (ls := [some (.ref 1000), some (.int w), none]) (by decide) rfl (Nat.le_of_ble_eq_true rfl) ?_
  intro Q hQ
  refine V_iload_n dX5_back_0 rfl ?_
  refine V_iconst dX5_back_1 li_0 ?_
  refine V_iconst dX5_back_2 li_2 ?_
  refine Vs_callIF (m_in l _ _ _) dX5_back_3 (lw_S q1308 q1309 q103 q1310) hs_X5_in (by decide) rfl (Nat.le_of_ble_eq_true rfl) ?_
  refine V_if_neB (tgt := 12) dX5_back_6 (by decide) (fun c6 => ?_) (fun c6 => ?_)
  · have J47 : ∀ (h0 : ¬ backN w S = 0), V l (yX5_back.cls, cX5_back, 3, (some .int), [], yX5_back.name) (rmD 1 0 0, xF0, Q, xX0) 47 [some (.ref 1000), some (.int w), some (.int (backN w S))] [] (mW S) 0 0 := by
      intro h0
      refine V_aload_n dX5_back_47 rfl ?_
      refine V_dup dX5_back_48 rfl ?_
      refine Vm_getI 10 dX5_back_49 q1174 (by decide) ?_
      refine V_iload_n dX5_back_52 rfl ?_
      refine V_if_ne (tgt := 60) dX5_back_53 (by decide) (fun c53 => ?_) (fun c53 => ?_)
      · refine V_iconst dX5_back_60 li_0 ?_
        refine V_isub dX5_back_61 ?_
        refine Vm_putI 10 dX5_back_62 q1174 (by decide) ?_
        refine V_aload_n dX5_back_65 rfl ?_
        refine V_dup dX5_back_66 rfl ?_
        refine Vm_getI 13 dX5_back_67 q1177 (by decide) ?_
        refine V_iload_n dX5_back_70 rfl ?_
        refine V_iconst dX5_back_71 li_1 ?_
        refine V_icmp_ne (tgt := 79) dX5_back_72 (by decide) (fun c72 => ?_) (fun c72 => ?_)
        · refine V_iconst dX5_back_79 li_0 ?_
          refine V_isub dX5_back_80 ?_
          refine Vm_putI 13 dX5_back_81 q1177 (by decide) ?_
          refine V_aload_n dX5_back_84 rfl ?_
          refine V_dup dX5_back_85 rfl ?_
          refine Vm_getI 17 dX5_back_86 q1181 (by decide) ?_
          refine V_iload_n dX5_back_89 rfl ?_
          refine V_iconst dX5_back_90 li_2 ?_
          refine V_icmp_ne (tgt := 98) dX5_back_91 (by decide) (fun c91 => ?_) (fun c91 => ?_)
          · refine V_iconst dX5_back_98 li_0 ?_
            refine V_isub dX5_back_99 ?_
            refine Vm_putI 17 dX5_back_100 q1181 (by decide) ?_
            refine V_iload_n dX5_back_103 rfl ?_
            refine V_iconst dX5_back_104 li_1 ?_
            refine V_isub dX5_back_105 ?_
            exact V_ireturn dX5_back_106 rfl (hQ _ _ ⟨_, rfl, ⟨by unfold backP; rw [if_pos c6, if_neg h0], by unfold backP backS; rw [if_pos c6, if_neg h0, if_neg c53, if_neg c72, if_neg c91]; try rfl⟩⟩)
          · refine V_iconst dX5_back_94 li_1 ?_
            refine V_goto (tgt := 99) dX5_back_95 (by decide) ?_
            refine V_isub dX5_back_99 ?_
            refine Vm_putI 17 dX5_back_100 q1181 (by decide) ?_
            refine V_iload_n dX5_back_103 rfl ?_
            refine V_iconst dX5_back_104 li_1 ?_
            refine V_isub dX5_back_105 ?_
            exact V_ireturn dX5_back_106 rfl (hQ _ _ ⟨_, rfl, ⟨by unfold backP; rw [if_pos c6, if_neg h0], by unfold backP backS; rw [if_pos c6, if_neg h0, if_neg c53, if_neg c72, if_pos c91]; try rfl⟩⟩)
        · refine V_iconst dX5_back_75 li_1 ?_
          refine V_goto (tgt := 80) dX5_back_76 (by decide) ?_
          refine V_isub dX5_back_80 ?_
          refine Vm_putI 13 dX5_back_81 q1177 (by decide) ?_
          refine V_aload_n dX5_back_84 rfl ?_
          refine V_dup dX5_back_85 rfl ?_
          refine Vm_getI 17 dX5_back_86 q1181 (by decide) ?_
          refine V_iload_n dX5_back_89 rfl ?_
          refine V_iconst dX5_back_90 li_2 ?_
          refine V_icmp_ne (tgt := 98) dX5_back_91 (by decide) (fun c91 => ?_) (fun c91 => ?_)
          · refine V_iconst dX5_back_98 li_0 ?_
            refine V_isub dX5_back_99 ?_
            refine Vm_putI 17 dX5_back_100 q1181 (by decide) ?_
            refine V_iload_n dX5_back_103 rfl ?_
            refine V_iconst dX5_back_104 li_1 ?_
            refine V_isub dX5_back_105 ?_
            exact V_ireturn dX5_back_106 rfl (hQ _ _ ⟨_, rfl, ⟨by unfold backP; rw [if_pos c6, if_neg h0], by unfold backP backS; rw [if_pos c6, if_neg h0, if_neg c53, if_pos c72, if_neg c91]; try rfl⟩⟩)
          · refine V_iconst dX5_back_94 li_1 ?_
            refine V_goto (tgt := 99) dX5_back_95 (by decide) ?_
            refine V_isub dX5_back_99 ?_
            refine Vm_putI 17 dX5_back_100 q1181 (by decide) ?_
            refine V_iload_n dX5_back_103 rfl ?_
            refine V_iconst dX5_back_104 li_1 ?_
            refine V_isub dX5_back_105 ?_
            exact V_ireturn dX5_back_106 rfl (hQ _ _ ⟨_, rfl, ⟨by unfold backP; rw [if_pos c6, if_neg h0], by unfold backP backS; rw [if_pos c6, if_neg h0, if_neg c53, if_pos c72, if_pos c91]; try rfl⟩⟩)
      · refine V_iconst dX5_back_56 li_1 ?_
        refine V_goto (tgt := 61) dX5_back_57 (by decide) ?_
        refine V_isub dX5_back_61 ?_
        refine Vm_putI 10 dX5_back_62 q1174 (by decide) ?_
        refine V_aload_n dX5_back_65 rfl ?_
        refine V_dup dX5_back_66 rfl ?_
        refine Vm_getI 13 dX5_back_67 q1177 (by decide) ?_
        refine V_iload_n dX5_back_70 rfl ?_
        refine V_iconst dX5_back_71 li_1 ?_
        refine V_icmp_ne (tgt := 79) dX5_back_72 (by decide) (fun c72 => ?_) (fun c72 => ?_)
        · refine V_iconst dX5_back_79 li_0 ?_
          refine V_isub dX5_back_80 ?_
          refine Vm_putI 13 dX5_back_81 q1177 (by decide) ?_
          refine V_aload_n dX5_back_84 rfl ?_
          refine V_dup dX5_back_85 rfl ?_
          refine Vm_getI 17 dX5_back_86 q1181 (by decide) ?_
          refine V_iload_n dX5_back_89 rfl ?_
          refine V_iconst dX5_back_90 li_2 ?_
          refine V_icmp_ne (tgt := 98) dX5_back_91 (by decide) (fun c91 => ?_) (fun c91 => ?_)
          · refine V_iconst dX5_back_98 li_0 ?_
            refine V_isub dX5_back_99 ?_
            refine Vm_putI 17 dX5_back_100 q1181 (by decide) ?_
            refine V_iload_n dX5_back_103 rfl ?_
            refine V_iconst dX5_back_104 li_1 ?_
            refine V_isub dX5_back_105 ?_
            exact V_ireturn dX5_back_106 rfl (hQ _ _ ⟨_, rfl, ⟨by unfold backP; rw [if_pos c6, if_neg h0], by unfold backP backS; rw [if_pos c6, if_neg h0, if_pos c53, if_neg c72, if_neg c91]; try rfl⟩⟩)
          · refine V_iconst dX5_back_94 li_1 ?_
            refine V_goto (tgt := 99) dX5_back_95 (by decide) ?_
            refine V_isub dX5_back_99 ?_
            refine Vm_putI 17 dX5_back_100 q1181 (by decide) ?_
            refine V_iload_n dX5_back_103 rfl ?_
            refine V_iconst dX5_back_104 li_1 ?_
            refine V_isub dX5_back_105 ?_
            exact V_ireturn dX5_back_106 rfl (hQ _ _ ⟨_, rfl, ⟨by unfold backP; rw [if_pos c6, if_neg h0], by unfold backP backS; rw [if_pos c6, if_neg h0, if_pos c53, if_neg c72, if_pos c91]; try rfl⟩⟩)
        · refine V_iconst dX5_back_75 li_1 ?_
          refine V_goto (tgt := 80) dX5_back_76 (by decide) ?_
          refine V_isub dX5_back_80 ?_
          refine Vm_putI 13 dX5_back_81 q1177 (by decide) ?_
          refine V_aload_n dX5_back_84 rfl ?_
          refine V_dup dX5_back_85 rfl ?_
          refine Vm_getI 17 dX5_back_86 q1181 (by decide) ?_
          refine V_iload_n dX5_back_89 rfl ?_
          refine V_iconst dX5_back_90 li_2 ?_
          refine V_icmp_ne (tgt := 98) dX5_back_91 (by decide) (fun c91 => ?_) (fun c91 => ?_)
          · refine V_iconst dX5_back_98 li_0 ?_
            refine V_isub dX5_back_99 ?_
            refine Vm_putI 17 dX5_back_100 q1181 (by decide) ?_
            refine V_iload_n dX5_back_103 rfl ?_
            refine V_iconst dX5_back_104 li_1 ?_
            refine V_isub dX5_back_105 ?_
            exact V_ireturn dX5_back_106 rfl (hQ _ _ ⟨_, rfl, ⟨by unfold backP; rw [if_pos c6, if_neg h0], by unfold backP backS; rw [if_pos c6, if_neg h0, if_pos c53, if_pos c72, if_neg c91]; try rfl⟩⟩)
          · refine V_iconst dX5_back_94 li_1 ?_
            refine V_goto (tgt := 99) dX5_back_95 (by decide) ?_
            refine V_isub dX5_back_99 ?_
            refine Vm_putI 17 dX5_back_100 q1181 (by decide) ?_
            refine V_iload_n dX5_back_103 rfl ?_
            refine V_iconst dX5_back_104 li_1 ?_
            refine V_isub dX5_back_105 ?_
            exact V_ireturn dX5_back_106 rfl (hQ _ _ ⟨_, rfl, ⟨by unfold backP; rw [if_pos c6, if_neg h0], by unfold backP backS; rw [if_pos c6, if_neg h0, if_pos c53, if_pos c72, if_pos c91]; try rfl⟩⟩)
    have J39 : V l (yX5_back.cls, cX5_back, 3, (some .int), [], yX5_back.name) (rmD 1 0 0, xF0, Q, xX0) 39 [some (.ref 1000), some (.int w), none] [.int (backN w S)] (mW S) 0 0 := by
      refine V_istore_n dX5_back_39 rfl (Nat.le_of_ble_eq_true rfl) (Nat.le_of_ble_eq_true rfl) ?_
      refine V_iload_n dX5_back_40 rfl ?_
      refine V_if_ne (tgt := 47) dX5_back_41 (by decide) (fun c41 => ?_) (fun c41 => ?_)
      · exact J47 c41
      · refine V_bipush dX5_back_44 lb_m3 ?_
        exact V_ireturn dX5_back_46 rfl (hQ _ _ ⟨_, rfl, ⟨by unfold backP; rw [if_pos c6, if_pos c41], by unfold backP; rw [if_pos c6, if_pos c41]⟩⟩)
    refine V_iload_n dX5_back_12 rfl ?_
    refine V_if_ne (tgt := 23) dX5_back_13 (by decide) (fun c13 => ?_) (fun c13 => ?_)
    · refine V_iload_n dX5_back_23 rfl ?_
      refine V_iconst dX5_back_24 li_1 ?_
      refine V_icmp_ne (tgt := 35) dX5_back_25 (by decide) (fun c25 => ?_) (fun c25 => ?_)
      · refine V_aload_n dX5_back_35 rfl ?_
        refine Vm_getI 17 dX5_back_36 q1181 (by decide) ?_
        exact V_topi (y := backN w S) (by unfold backN; rw [if_neg c13, if_neg c25]) J39
      · refine V_aload_n dX5_back_28 rfl ?_
        refine Vm_getI 13 dX5_back_29 q1177 (by decide) ?_
        refine V_goto (tgt := 39) dX5_back_32 (by decide) ?_
        exact V_topi (y := backN w S) (by unfold backN; rw [if_neg c13, if_pos c25]) J39
    · refine V_aload_n dX5_back_16 rfl ?_
      refine Vm_getI 10 dX5_back_17 q1174 (by decide) ?_
      refine V_goto (tgt := 39) dX5_back_20 (by decide) ?_
      exact V_topi (y := backN w S) (by unfold backN; rw [if_pos c13]) J39
  · refine V_bipush dX5_back_9 lb_m2 ?_
    exact V_ireturn dX5_back_11 rfl (hQ _ _ ⟨_, rfl, ⟨by unfold backP; rw [if_neg c6], by unfold backP; rw [if_neg c6]⟩⟩)
set_option maxHeartbeats 4000000 in
theorem m_forget (l : Launch) (S : xSt)  : Cm l yX5_forget cX5_forget 2 (some .int) 0 [] S (fun r S' => ∃ x, r = some (.int x) ∧ x = (forgetP S).1 ∧ S' = (forgetP S).2) := by
  refine Cm_start (ls := [some (.ref 1000), none]) (by decide) rfl (Nat.le_of_ble_eq_true rfl) ?_
  intro Q hQ
  refine V_aload_n dX5_forget_0 rfl ?_
  refine Vm_getI 34 dX5_forget_1 q1198 (by decide) ?_
  refine V_istore_n dX5_forget_4 rfl (Nat.le_of_ble_eq_true rfl) (Nat.le_of_ble_eq_true rfl) ?_
  refine V_aload_n dX5_forget_5 rfl ?_
  refine V_iconst dX5_forget_6 li_0 ?_
  refine Vm_putI 34 dX5_forget_7 q1198 (by decide) ?_
  refine V_iload_n dX5_forget_10 rfl ?_
  exact V_ireturn dX5_forget_11 rfl (hQ _ _ ⟨_, rfl, ⟨rfl, rfl⟩⟩)
set_option maxHeartbeats 4000000 in
theorem m_meets (l : Launch) (S : xSt) (n : Nat) : Cm l yX5_meets cX5_meets 2 (some .int) 0 [.int (nI n)] S (fun r S' => ∃ x, r = some (.int x) ∧ x = (meetsF n S).1 ∧ S' = (meetsF n S).2) := by
  refine Cm_start (ls := [some (.ref 1000), some (.int (nI n))]) (by decide) rfl (Nat.le_of_ble_eq_true rfl) ?_
  intro Q hQ
  refine V_aload_n dX5_meets_0 rfl ?_
  refine V_iload_n dX5_meets_1 rfl ?_
  refine Vm_putI 44 dX5_meets_2 q1208 (by decide) ?_
  refine V_bipush dX5_meets_5 lb_m10 ?_
  refine V_iload_n dX5_meets_7 rfl ?_
  refine V_isub dX5_meets_8 ?_
  exact V_ireturn dX5_meets_9 rfl (hQ _ _ ⟨_, rfl, ⟨rfl, rfl⟩⟩)
theorem keepingP_10 {d p : Int32} {S : xSt} (h : bd (S 10 0) 8) : bd ((keepingP d p S).2 10 0) 8 := by
  unfold keepingP
  split
  · split
    · split
      · exact h
      · rename_i hne
        obtain ⟨n, hn, hnt⟩ := h
        show bd (mwr (mwr (mwr S 11 (vN (S 10 0)) d) 12 (vN (S 10 0)) p) 10 0 (nI (vN (S 10 0) + 1)) 10 0) 8
        rw [mwr_s, hnt, vN_nI (by omega)]
        exact ⟨n + 1, Nat.lt_of_le_of_ne hn (fun e => hne (by rw [hnt, e])), rfl⟩
    · exact h
  · exact h
theorem keepingP_r {d p : Int32} {S : xSt} {r : Nat} (h : r ≠ 10 ∧ r ≠ 11 ∧ r ≠ 12) : (keepingP d p S).2 r = S r := by
  unfold keepingP
  split
  · split
    · split
      · rfl
      · show mwr (mwr (mwr S 11 (vN (S 10 0)) d) 12 (vN (S 10 0)) p) 10 0 (nI (vN (S 10 0) + 1)) r = S r
        rw [mwr_R _ _ _ h.1, mwr_R _ _ _ h.2.2, mwr_R _ _ _ h.2.1]
    · rfl
  · rfl

set_option maxHeartbeats 4000000 in
theorem m_read (l : Launch) (S : xSt) (s : Int32) (hS : bd (S 10 0) 8) (hz : ∀ i, i < 4 → bd (S 41 i) 60) : Cm l yX5_read cX5_read 3 (some .int) 3 [.int s] S (fun r S' => ∃ x, r = some (.int x) ∧ x = (readP s S).1 ∧ S' = (readP s S).2) := by
  refine Cm_start (ls := [some (.ref 1000), some (.int s), none]) (by decide) rfl (Nat.le_of_ble_eq_true rfl) ?_
  intro Q hQ
  refine V_iload_n dX5_read_0 rfl ?_
  refine Vs_callIF (m_isSheet l _) dX5_read_1 (lw_S q1397 q1398 q103 q1399) hs_X5_isSheet (by decide) rfl (Nat.le_of_ble_eq_true rfl) ?_
  refine V_if_neB (tgt := 10) dX5_read_4 (by decide) (fun c4 => ?_) (fun c4 => ?_)
  · obtain ⟨s, hs, rfl⟩ := bd_I (by decide) c4
    have hvs : vN (nI s) = s := vN_nI (by omega)
    obtain ⟨zz, hzz, hz0⟩ := hz s (by omega)
    refine V_aload_n dX5_read_10 rfl ?_
    refine Vm_getA 39 dX5_read_11 q1203 (by decide) ?_
    refine V_iload_n dX5_read_14 rfl ?_
    refine Vm_zald dX5_read_15 (by first | rfl | assumption) (by show _ < 4; omega) (by decide) ?_
    refine V_if_ne (tgt := 25) dX5_read_16 (by decide) (fun c16 => ?_) (fun c16 => ?_)
    · have L27 : ∀ (j n : Nat) (S1 : xSt) (hj : n + j = 31) (h1 : bd (S1 10 0) 8) (hz1 : S1 41 s = nI zz) (hR : rdK s j n S1 = readP (nI s) S), V l (yX5_read.cls, cX5_read, 3, (some .int), [], yX5_read.name) (rmD 3 0 0, xF0, Q, xX0) 27 [some (.ref 1000), some (.int (nI s)), some (.int (nI n))] [] (mW S1) 0 0 := by
        intro j
        induction j with
        | zero =>
          intro n S1 hj h1 hz1 hR
          refine V_iconst dX5_read_27 li_2 ?_
          refine V_iload_n dX5_read_28 rfl ?_
          refine V_imulN dX5_read_29 ?_
          refine V_iconst dX5_read_30 li_1 ?_
          refine V_iaddN dX5_read_31 ?_
          refine V_aload_n dX5_read_32 rfl ?_
          refine Vm_getA 41 dX5_read_33 q1205 (by decide) ?_
          refine V_iload_n dX5_read_36 rfl ?_
          refine Vm_iald dX5_read_37 (by first | rfl | assumption) (by show _ < 4; omega) (by decide) ?_
          refine V_topi hz1 ?_
          refine V_icmp_ge (tgt := 82) dX5_read_38 (by decide) (fun _ => ?_) (fun c38 => absurd (nI_le (by omega) (by omega)) c38)
          refine V_iload_n dX5_read_82 rfl ?_
          exact V_ireturn dX5_read_83 rfl (hQ _ _ ⟨_, rfl, ⟨by rw [← hR]; rfl, by rw [← hR]; rfl⟩⟩)
        | succ j ih =>
          intro n S1 hj h1 hz1 hR
          refine V_iconst dX5_read_27 li_2 ?_
          refine V_iload_n dX5_read_28 rfl ?_
          refine V_imulN dX5_read_29 ?_
          refine V_iconst dX5_read_30 li_1 ?_
          refine V_iaddN dX5_read_31 ?_
          refine V_aload_n dX5_read_32 rfl ?_
          refine Vm_getA 41 dX5_read_33 q1205 (by decide) ?_
          refine V_iload_n dX5_read_36 rfl ?_
          refine Vm_iald dX5_read_37 (by first | rfl | assumption) (by show _ < 4; omega) (by decide) ?_
          refine V_icmp_ge (tgt := 82) dX5_read_38 (by decide) (fun c38 => ?_) (fun c38 => ?_)
          · refine V_iload_n dX5_read_82 rfl ?_
            exact V_ireturn dX5_read_83 rfl (hQ _ _ ⟨_, rfl, ⟨by rw [← hR, rdK_s, if_pos c38], by rw [← hR, rdK_s, if_pos c38]⟩⟩)
          · have hlt : 2 * n + 1 < zz := by rw [hz1] at c38; exact Nat.not_le.mp fun q => c38 (nI_le q (by omega))
            refine V_aload_n dX5_read_41 rfl ?_
            refine V_aload_n dX5_read_42 rfl ?_
            refine Vm_getA 42 dX5_read_43 q1206 (by decide) ?_
            refine V_bipush dX5_read_46 lb_60 ?_
            refine V_iload_n dX5_read_48 rfl ?_
            refine V_imulN dX5_read_49 ?_
            refine V_iconst dX5_read_50 li_2 ?_
            refine V_iload_n dX5_read_51 rfl ?_
            refine V_imulN dX5_read_52 ?_
            refine V_iaddN dX5_read_53 ?_
            refine Vm_iald dX5_read_54 rfl (by show _ < 240; omega) (by decide) ?_
            refine V_aload_n dX5_read_55 rfl ?_
            refine Vm_getA 42 dX5_read_56 q1206 (by decide) ?_
            refine V_bipush dX5_read_59 lb_60 ?_
            refine V_iload_n dX5_read_61 rfl ?_
            refine V_imulN dX5_read_62 ?_
            refine V_iconst dX5_read_63 li_2 ?_
            refine V_iload_n dX5_read_64 rfl ?_
            refine V_imulN dX5_read_65 ?_
            refine V_iaddN dX5_read_66 ?_
            refine V_iconst dX5_read_67 li_1 ?_
            refine V_iaddN dX5_read_68 ?_
            refine Vm_iald dX5_read_69 rfl (by show _ < 240; omega) (by decide) ?_
            refine Vm_callIF (m_keeping l _ _ _ h1) dX5_read_70 (lw_V q1404 q1372 q1373 q103 q1374) hv_X5_keeping (by decide) rfl (Nat.le_of_ble_eq_true rfl) ?_
            refine V_if_le (tgt := 82) dX5_read_73 (by decide) (fun c73 => ?_) (fun c73 => ?_)
            · refine V_iload_n dX5_read_82 rfl ?_
              exact V_ireturn dX5_read_83 rfl (hQ _ _ ⟨_, rfl, ⟨by rw [← hR, rdK_s, if_neg c38, if_pos c73], by rw [← hR, rdK_s, if_neg c38, if_pos c73]⟩⟩)
            · refine V_iinc dX5_read_76 rfl (iinc_1 _) rfl (Nat.le_of_ble_eq_true rfl) ?_
              refine V_goto (tgt := 27) dX5_read_79 (by decide) ?_
              exact ih (n + 1) _ (by omega) (keepingP_10 h1) (by rw [keepingP_r (by omega)]; exact hz1) (by rw [← hR, rdK_s, if_neg c38, if_neg c73])
      refine V_iconst dX5_read_25 li_0 ?_
      refine V_istore_n dX5_read_26 rfl (Nat.le_of_ble_eq_true rfl) (Nat.le_of_ble_eq_true rfl) ?_
      exact L27 31 0 S (by omega) hS hz0 (by unfold readP; rw [if_pos c4, hvs, if_neg c16])
    · refine V_aload_n dX5_read_19 rfl ?_
      refine V_iconst dX5_read_20 li_1 ?_
      refine Vm_callIF (m_meets l _ _) dX5_read_21 (lw_V q1400 q1402 qs53 q103 q1403) hv_X5_meets (by decide) rfl (Nat.le_of_ble_eq_true rfl) ?_
      exact V_ireturn dX5_read_24 rfl (hQ _ _ ⟨_, rfl, ⟨by unfold readP; rw [if_pos c4, hvs, if_pos c16], by unfold readP; rw [if_pos c4, hvs, if_pos c16]⟩⟩)
  · refine V_bipush dX5_read_7 lb_m2 ?_
    exact V_ireturn dX5_read_9 rfl (hQ _ _ ⟨_, rfl, ⟨by unfold readP; rw [if_neg c4], by unfold readP; rw [if_neg c4]⟩⟩)
def ofRowF (S : xSt) (n i : Int32) : Int32 := if i = -1 then n else if n ≤ i then -1 else S 33 (vN i)
set_option maxHeartbeats 4000000 in
theorem m_ofRow (l : Launch) (S : xSt) (n i : Int32) (hi : i = -1 ∨ bd i 1) : Cm l yX5_ofRow cX5_ofRow 3 (some .int) 0 [.int n, .int i] S (fun r S' => ∃ x, r = some (.int x) ∧ x = ofRowF S n i ∧ S' = S) := by
  refine Cm_start (ls := [some (.ref 1000), some (.int n), some (.int i)]) (by decide) rfl (Nat.le_of_ble_eq_true rfl) ?_
  intro Q hQ
  refine V_iload_n dX5_ofRow_0 rfl ?_
  refine V_iconst dX5_ofRow_1 li_m1 ?_
  refine V_icmp_ne (tgt := 9) dX5_ofRow_2 (by decide) (fun c2 => ?_) (fun c2 => ?_)
  · obtain ⟨q, hq, rfl⟩ := hi.resolve_left c2
    have hvq : vN (nI q) = q := vN_nI (by omega)
    refine V_iload_n dX5_ofRow_9 rfl ?_
    refine V_iload_n dX5_ofRow_10 rfl ?_
    refine V_icmp_ge (tgt := 23) dX5_ofRow_11 (by decide) (fun c11 => ?_) (fun c11 => ?_)
    · refine V_iconst dX5_ofRow_23 li_m1 ?_
      exact V_ireturn dX5_ofRow_24 rfl (hQ _ _ ⟨_, rfl, ⟨by unfold ofRowF; rw [if_neg c2, if_pos c11], rfl⟩⟩)
    · refine V_aload_n dX5_ofRow_14 rfl ?_
      refine Vm_getA 33 dX5_ofRow_15 q1197 (by decide) ?_
      refine V_iload_n dX5_ofRow_18 rfl ?_
      refine Vm_iald dX5_ofRow_19 (by first | rfl | assumption) (by show _ < 2; omega) (by decide) ?_
      refine V_goto (tgt := 24) dX5_ofRow_20 (by decide) ?_
      exact V_ireturn dX5_ofRow_24 rfl (hQ _ _ ⟨_, rfl, ⟨by unfold ofRowF; rw [if_neg c2, if_neg c11, hvq], rfl⟩⟩)
  · refine V_iload_n dX5_ofRow_5 rfl ?_
    refine V_goto (tgt := 24) dX5_ofRow_6 (by decide) ?_
    exact V_ireturn dX5_ofRow_24 rfl (hQ _ _ ⟨_, rfl, ⟨by unfold ofRowF; rw [if_pos c2], rfl⟩⟩)
