/-! the model's texts -/
set_option maxRecDepth 100000
def tI (S : xSt) : Prop := bd (S 0 0) 23 ∧ bd (S 0 1) 49
theorem tI_49 {S : xSt} (h : tI S) {t : Nat} (ht : t < 2) : bd (S 0 t) 49 := by
  rcases (show t = 0 ∨ t = 1 by omega) with rfl | rfl
  · exact bd_le h.1 (by decide)
  · exact h.2
theorem nI1_ne0 : ¬ nI 1 = 0 := by decide +kernel
theorem n01 : ¬ nI 0 = nI 1 := by decide +kernel
theorem mwr_same (S : xSt) (r i : Nat) : mwr S r i (S r i) = S := by
  funext a b
  unfold mwr
  by_cases h : a = r ∧ b = i
  · rw [if_pos h, h.1, h.2]
  · rw [if_neg h]
def capI (t : Nat) : Int32 := if t = 0 then nI 23 else nI 49
def typeT (t : Nat) (b : Int32) (S : xSt) : Int32 × xSt := if S 0 t = capI t then (-4, S) else
  (S 0 t + nI 1, mwr (mwr S 1 (49 * t + (S 0 t).toNatClampNeg) b) 0 t (S 0 t + nI 1))
def typeF (t b : Int32) (S : xSt) : Int32 × xSt := if nI 0 ≤ t ∧ t ≤ nI 1 then (if nI 0 ≤ b ∧ b ≤ nI 255 then typeT t.toNatClampNeg b S else (-2, S)) else (-2, S)
def wipeF (t : Int32) (S : xSt) : Int32 × xSt := if nI 0 ≤ t ∧ t ≤ nI 1 then (S 0 t.toNatClampNeg, mwr S 0 t.toNatClampNeg (nI 0)) else (-2, S)
def undoT (t : Nat) (S : xSt) : Int32 × xSt := if S 0 t = 0 then (-3, S) else (S 0 t - nI 1, mwr S 0 t (S 0 t - nI 1))
def undoF (t : Int32) (S : xSt) : Int32 × xSt := if nI 0 ≤ t ∧ t ≤ nI 1 then undoT t.toNatClampNeg S else (-2, S)

set_option maxHeartbeats 4000000 in
theorem m_type (l : Launch) (S : xSt) (t b : Int32) (hS : tI S) : Cm l yX5_type cX5_type 3 (some .int) 2 [.int t, .int b] S (fun r S' => ∃ x, r = some (.int x) ∧ x = (typeF t b S).1 ∧ S' = (typeF t b S).2) := by
  refine Cm_start (ls := [some (.ref 1000), some (.int t), some (.int b)]) (by decide) rfl (Nat.le_of_ble_eq_true rfl) ?_
  intro Q hQ
  refine V_iload_n dX5_type_0 rfl ?_
  refine Vs_callIF (m_isText l _) dX5_type_1 (lw_S q1305 q1306 q103 q1307) hs_X5_isText (by decide) rfl (Nat.le_of_ble_eq_true rfl) ?_
  refine V_if_eqB (tgt := 18) dX5_type_4 (by decide) (fun c4 => ?_) (fun c4 => ?_)
  · refine V_bipush dX5_type_18 lb_m2 ?_
    exact V_ireturn dX5_type_20 rfl (hQ _ _ ⟨_, rfl, ⟨by unfold typeF; rw [if_neg c4], by unfold typeF; rw [if_neg c4]⟩⟩)
  · refine V_iload_n dX5_type_7 rfl ?_
    refine V_iconst dX5_type_8 li_0 ?_
    refine V_sipush dX5_type_9 ls_255 ?_
    refine Vs_callIF (m_in l _ _ _) dX5_type_12 (lw_S q1308 q1309 q103 q1310) hs_X5_in (by decide) rfl (Nat.le_of_ble_eq_true rfl) ?_
    refine V_if_neB (tgt := 21) dX5_type_15 (by decide) (fun c15 => ?_) (fun c15 => ?_)
    · obtain ⟨t, ht, rfl⟩ := bd_I (by decide) c4
      have hb := tI_49 hS (show t < 2 by omega)
      obtain ⟨n, hn, hnt⟩ := hb
      have J38 : V l (yX5_type.cls, cX5_type, 3, (some .int), [], yX5_type.name) (rmD 2 0 0, xF0, Q, xX0) 38 [some (.ref 1000), some (.int (nI t)), some (.int b)] [.int (capI t), .int (S 0 t)] (mW S) 0 0 := by
        refine V_icmp_ne (tgt := 44) dX5_type_38 (by decide) (fun c38 => ?_) (fun c38 => ?_)
        · have hnn : n < 49 := by
            rcases (show t = 0 ∨ t = 1 by omega) with e | e
            · have h23 := hS.1; rw [show S 0 0 = S 0 t by rw [e], hnt] at h23; obtain ⟨j, h1, h2⟩ := h23; have := (nI_eq (show n < 2 ^ 31 by omega) (show j < 2 ^ 31 by omega)).mp h2; omega
            · exact Nat.lt_of_le_of_ne hn (fun z => c38 (by rw [hnt, z]; unfold capI; rw [if_neg (by omega)]))
          refine V_aload_n dX5_type_44 rfl ?_
          refine Vm_getA 1 dX5_type_45 q1165 (by decide) ?_
          refine V_bipush dX5_type_48 lb_49 ?_
          refine V_iload_n dX5_type_50 rfl ?_
          refine V_imulN dX5_type_51 ?_
          refine V_aload_n dX5_type_52 rfl ?_
          refine Vm_getA 0 dX5_type_53 q1164 (by decide) ?_
          refine V_iload_n dX5_type_56 rfl ?_
          refine Vm_iald dX5_type_57 (by first | rfl | assumption) (by show _ < 2; omega) (by decide) ?_
          refine V_topi hnt ?_
          refine V_iaddN dX5_type_58 ?_
          refine V_iload_n dX5_type_59 rfl ?_
          refine Vm_iast dX5_type_60 rfl (by show _ < 98; omega) (by decide) ?_
          refine V_aload_n dX5_type_61 rfl ?_
          refine Vm_getA 0 dX5_type_62 q1164 (by decide) ?_
          refine V_iload_n dX5_type_65 rfl ?_
          refine V_dup2 dX5_type_66 rfl rfl ?_
          refine Vm_iald dX5_type_67 rfl (by show _ < 2; omega) (by decide) ?_
          refine V_iconst dX5_type_68 li_1 ?_
          refine V_iadd dX5_type_69 ?_
          refine Vm_iast dX5_type_70 rfl (by show _ < 2; omega) (by decide) ?_
          rw [show mwr S 1 (49 * t + n) b 0 t = S 0 t from mwr_r S _ _ _ (by decide)]
          refine V_aload_n dX5_type_71 rfl ?_
          refine Vm_getA 0 dX5_type_72 q1164 (by decide) ?_
          refine V_iload_n dX5_type_75 rfl ?_
          refine Vm_iald dX5_type_76 rfl (by show _ < 2; omega) (by decide) ?_
          rw [mwr_s]
          exact V_ireturn dX5_type_77 rfl (hQ _ _ ⟨_, rfl, ⟨by unfold typeF typeT; rw [if_pos c4, if_pos c15, (nI_clamp (show t < 2 ^ 31 by omega)), if_neg c38], by unfold typeF typeT; rw [if_pos c4, if_pos c15, (nI_clamp (show t < 2 ^ 31 by omega)), if_neg c38, hnt, nI_clamp (by omega)]⟩⟩)
        · refine V_bipush dX5_type_41 lb_m4 ?_
          exact V_ireturn dX5_type_43 rfl (hQ _ _ ⟨_, rfl, ⟨by unfold typeF typeT; rw [if_pos c4, if_pos c15, (nI_clamp (show t < 2 ^ 31 by omega)), if_pos c38], by unfold typeF typeT; rw [if_pos c4, if_pos c15, (nI_clamp (show t < 2 ^ 31 by omega)), if_pos c38]⟩⟩)
      refine V_aload_n dX5_type_21 rfl ?_
      refine Vm_getA 0 dX5_type_22 q1164 (by decide) ?_
      refine V_iload_n dX5_type_25 rfl ?_
      refine Vm_iald dX5_type_26 (by first | rfl | assumption) (by show _ < 2; omega) (by decide) ?_
      refine V_iload_n dX5_type_27 rfl ?_
      refine V_if_ne (tgt := 36) dX5_type_28 (by decide) (fun c28 => ?_) (fun c28 => ?_)
      · refine V_bipush dX5_type_36 lb_49 ?_
        exact V_topi (by unfold capI; first | rw [if_pos (by have := nI_eq (b := 0) (show t < 2 ^ 31 by omega) (by decide); exact this.mp (c28.trans nI_0.symm))] | rw [if_neg (fun e => c28 (by rw [e]; exact nI_0))]) J38
      · refine V_bipush dX5_type_31 lb_23 ?_
        refine V_goto (tgt := 38) dX5_type_33 (by decide) ?_
        exact V_topi (by unfold capI; first | rw [if_pos (by have := nI_eq (b := 0) (show t < 2 ^ 31 by omega) (by decide); exact this.mp (c28.trans nI_0.symm))] | rw [if_neg (fun e => c28 (by rw [e]; exact nI_0))]) J38
    · refine V_bipush dX5_type_18 lb_m2 ?_
      exact V_ireturn dX5_type_20 rfl (hQ _ _ ⟨_, rfl, ⟨by unfold typeF; rw [if_pos c4, if_neg c15], by unfold typeF; rw [if_pos c4, if_neg c15]⟩⟩)
set_option maxHeartbeats 4000000 in
theorem m_wipe (l : Launch) (S : xSt) (t : Int32) (hS : tI S) : Cm l yX5_wipe cX5_wipe 3 (some .int) 2 [.int t] S (fun r S' => ∃ x, r = some (.int x) ∧ x = (wipeF t S).1 ∧ S' = (wipeF t S).2) := by
  refine Cm_start (ls := [some (.ref 1000), some (.int t), none]) (by decide) rfl (Nat.le_of_ble_eq_true rfl) ?_
  intro Q hQ
  refine V_iload_n dX5_wipe_0 rfl ?_
  refine Vs_callIF (m_isText l _) dX5_wipe_1 (lw_S q1305 q1306 q103 q1307) hs_X5_isText (by decide) rfl (Nat.le_of_ble_eq_true rfl) ?_
  refine V_if_neB (tgt := 10) dX5_wipe_4 (by decide) (fun c4 => ?_) (fun c4 => ?_)
  · obtain ⟨t, ht, rfl⟩ := bd_I (by decide) c4
    have hb := tI_49 hS (show t < 2 by omega)
    obtain ⟨n, hn, hnt⟩ := hb
    refine V_aload_n dX5_wipe_10 rfl ?_
    refine Vm_getA 0 dX5_wipe_11 q1164 (by decide) ?_
    refine V_iload_n dX5_wipe_14 rfl ?_
    refine Vm_iald dX5_wipe_15 (by first | rfl | assumption) (by show _ < 2; omega) (by decide) ?_
    refine V_istore_n dX5_wipe_16 rfl (Nat.le_of_ble_eq_true rfl) (Nat.le_of_ble_eq_true rfl) ?_
    refine V_aload_n dX5_wipe_17 rfl ?_
    refine Vm_getA 0 dX5_wipe_18 q1164 (by decide) ?_
    refine V_iload_n dX5_wipe_21 rfl ?_
    refine V_iconst dX5_wipe_22 li_0 ?_
    refine Vm_iast dX5_wipe_23 (by first | rfl | assumption) (by show _ < 2; omega) (by decide) ?_
    refine V_iload_n dX5_wipe_24 rfl ?_
    exact V_ireturn dX5_wipe_25 rfl (hQ _ _ ⟨_, rfl, ⟨by unfold wipeF; rw [if_pos c4, (nI_clamp (show t < 2 ^ 31 by omega))], by unfold wipeF; rw [if_pos c4, (nI_clamp (show t < 2 ^ 31 by omega))]⟩⟩)
  · refine V_bipush dX5_wipe_7 lb_m2 ?_
    exact V_ireturn dX5_wipe_9 rfl (hQ _ _ ⟨_, rfl, ⟨by unfold wipeF; rw [if_neg c4], by unfold wipeF; rw [if_neg c4]⟩⟩)
set_option maxHeartbeats 4000000 in
theorem m_undo (l : Launch) (S : xSt) (t : Int32) (hS : tI S) : Cm l yX5_undo cX5_undo 2 (some .int) 2 [.int t] S (fun r S' => ∃ x, r = some (.int x) ∧ x = (undoF t S).1 ∧ S' = (undoF t S).2) := by
  refine Cm_start (ls := [some (.ref 1000), some (.int t)]) (by decide) rfl (Nat.le_of_ble_eq_true rfl) ?_
  intro Q hQ
  refine V_iload_n dX5_undo_0 rfl ?_
  refine Vs_callIF (m_isText l _) dX5_undo_1 (lw_S q1305 q1306 q103 q1307) hs_X5_isText (by decide) rfl (Nat.le_of_ble_eq_true rfl) ?_
  refine V_if_neB (tgt := 10) dX5_undo_4 (by decide) (fun c4 => ?_) (fun c4 => ?_)
  · obtain ⟨t, ht, rfl⟩ := bd_I (by decide) c4
    have hb := tI_49 hS (show t < 2 by omega)
    obtain ⟨n, hn, hnt⟩ := hb
    refine V_aload_n dX5_undo_10 rfl ?_
    refine Vm_getA 0 dX5_undo_11 q1164 (by decide) ?_
    refine V_iload_n dX5_undo_14 rfl ?_
    refine Vm_iald dX5_undo_15 (by first | rfl | assumption) (by show _ < 2; omega) (by decide) ?_
    refine V_if_ne (tgt := 22) dX5_undo_16 (by decide) (fun c16 => ?_) (fun c16 => ?_)
    · refine V_aload_n dX5_undo_22 rfl ?_
      refine Vm_getA 0 dX5_undo_23 q1164 (by decide) ?_
      refine V_iload_n dX5_undo_26 rfl ?_
      refine V_dup2 dX5_undo_27 rfl rfl ?_
      refine Vm_iald dX5_undo_28 (by first | rfl | assumption) (by show _ < 2; omega) (by decide) ?_
      refine V_iconst dX5_undo_29 li_1 ?_
      refine V_isub dX5_undo_30 ?_
      refine Vm_iast dX5_undo_31 (by first | rfl | assumption) (by show _ < 2; omega) (by decide) ?_
      refine V_aload_n dX5_undo_32 rfl ?_
      refine Vm_getA 0 dX5_undo_33 q1164 (by decide) ?_
      refine V_iload_n dX5_undo_36 rfl ?_
      refine Vm_iald dX5_undo_37 (by first | rfl | assumption) (by show _ < 2; omega) (by decide) ?_
      rw [mwr_s]
      exact V_ireturn dX5_undo_38 rfl (hQ _ _ ⟨_, rfl, ⟨by unfold undoF undoT; rw [if_pos c4, (nI_clamp (show t < 2 ^ 31 by omega)), if_neg c16], by unfold undoF undoT; rw [if_pos c4, (nI_clamp (show t < 2 ^ 31 by omega)), if_neg c16]⟩⟩)
    · refine V_bipush dX5_undo_19 lb_m3 ?_
      exact V_ireturn dX5_undo_21 rfl (hQ _ _ ⟨_, rfl, ⟨by unfold undoF undoT; rw [if_pos c4, (nI_clamp (show t < 2 ^ 31 by omega)), if_pos c16], by unfold undoF undoT; rw [if_pos c4, (nI_clamp (show t < 2 ^ 31 by omega)), if_pos c16]⟩⟩)
  · refine V_bipush dX5_undo_7 lb_m2 ?_
    exact V_ireturn dX5_undo_9 rfl (hQ _ _ ⟨_, rfl, ⟨by unfold undoF; rw [if_neg c4], by unfold undoF; rw [if_neg c4]⟩⟩)
/-- a person's sort out of its letter -/
def sortI (b : Int32) : Int32 := if b = nI 109 then nI 0 else if b = nI 115 then nI 1 else if b = nI 97 then nI 2 else -1
def rdPG (n : Nat) (so si : Int32) (S : xSt) : Int32 × xSt := if n = 8 then (nI 0, S) else if so = -1 then (nI 0, S) else if nI 48 ≤ si ∧ si ≤ nI 57 then (nI 2, mwr (mwr S 3 n so) 4 n (si - nI 48)) else (nI 1, S)
def rdP (n a : Nat) (S : xSt) : Int32 × xSt := rdPG n (sortI (tbF S 0 a)) (tbF S 0 (a + 1)) S
def rdQG (n : Nat) (w g m d : Int32) (S : xSt) : Int32 × xSt := if n = 10 then (nI 0, S) else if nI 97 ≤ w ∧ w ≤ nI 104 then (if nI 49 ≤ g ∧ g ≤ nI 57 then (if nI 97 ≤ m ∧ m ≤ nI 120 then (if nI 97 ≤ d ∧ d ≤ nI 120 then
  (nI 4, mwr (mwr (mwr (mwr S 6 n (w - nI 97)) 7 n (g - nI 48)) 8 n (m - nI 97)) 9 n (d - nI 97)) else (nI 3, S)) else (nI 2, S)) else (nI 1, S)) else (nI 0, S)
def rdQ (n a : Nat) (S : xSt) : Int32 × xSt := rdQG n (tbF S 1 a) (tbF S 1 (a + 1)) (tbF S 1 (a + 2)) (tbF S 1 (a + 3)) S

set_option maxHeartbeats 4000000 in
theorem m_readsPerson (l : Launch) (S : xSt) (n a : Nat) (hS : tI S) (hn : n ≤ 8) (ha : a < 1000) : Cm l yX5_readsPerson cX5_readsPerson 6 (some .int) 1 [.int (nI n), .int (nI a)] S (fun r S' => ∃ x, r = some (.int x) ∧ x = (rdP n a S).1 ∧ S' = (rdP n a S).2) := by
  refine Cm_start (ls := [some (.ref 1000), some (.int (nI n)), some (.int (nI a)), none, none, none]) (by decide) rfl (Nat.le_of_ble_eq_true rfl) ?_
  intro Q hQ
  have h9 := tI_49 hS (show 0 < 2 by omega)
  have J38 : ∀ (y : Int32) (hy : y = sortI (tbF S 0 a)), V l (yX5_readsPerson.cls, cX5_readsPerson, 6, (some .int), [], yX5_readsPerson.name) (rmD 1 0 0, xF0, Q, xX0) 38 [some (.ref 1000), some (.int (nI n)), some (.int (nI a)), some (.int (tbF S 0 a)), none, none] [.int y] (mW S) 0 0 := by
    intro y hy
    refine V_istore dX5_readsPerson_38 rfl (Nat.le_of_ble_eq_true rfl) (Nat.le_of_ble_eq_true rfl) ?_
    refine V_aload_n dX5_readsPerson_40 rfl ?_
    refine V_iconst dX5_readsPerson_41 li_0 ?_
    refine V_iload_n dX5_readsPerson_42 rfl ?_
    refine V_iconst dX5_readsPerson_43 li_1 ?_
    refine V_iaddN dX5_readsPerson_44 ?_
    refine Vm_callIF (m_byteAt l _ _ _ (by omega) h9 (by omega)) dX5_readsPerson_45 (lw_V q1335 q1337 qs46 q103 q1338) hv_X5_byteAt (by decide) rfl (Nat.le_of_ble_eq_true rfl) ?_
    refine V_istore dX5_readsPerson_48 rfl (Nat.le_of_ble_eq_true rfl) (Nat.le_of_ble_eq_true rfl) ?_
    refine V_iload_n dX5_readsPerson_50 rfl ?_
    refine V_bipush dX5_readsPerson_51 lb_8 ?_
    refine V_icmp_eqN (tgt := 62) dX5_readsPerson_53 (by decide) (by omega) (by omega) (fun c53 => ?_) (fun c53 => ?_)
    · refine V_iconst dX5_readsPerson_62 li_0 ?_
      exact V_ireturn dX5_readsPerson_63 rfl (hQ _ _ ⟨_, rfl, ⟨by unfold rdP rdPG; rw [if_pos c53], by unfold rdP rdPG; rw [if_pos c53]⟩⟩)
    · refine V_iload dX5_readsPerson_56 rfl ?_
      refine V_iconst dX5_readsPerson_58 li_m1 ?_
      refine V_icmp_ne (tgt := 64) dX5_readsPerson_59 (by decide) (fun c59 => ?_) (fun c59 => ?_)
      · refine V_iload dX5_readsPerson_64 rfl ?_
        refine V_bipush dX5_readsPerson_66 lb_48 ?_
        refine V_bipush dX5_readsPerson_68 lb_57 ?_
        refine Vs_callIF (m_in l _ _ _) dX5_readsPerson_70 (lw_S q1308 q1309 q103 q1310) hs_X5_in (by decide) rfl (Nat.le_of_ble_eq_true rfl) ?_
        refine V_if_neB (tgt := 78) dX5_readsPerson_73 (by decide) (fun c73 => ?_) (fun c73 => ?_)
        · refine V_aload_n dX5_readsPerson_78 rfl ?_
          refine Vm_getA 3 dX5_readsPerson_79 q1167 (by decide) ?_
          refine V_iload_n dX5_readsPerson_82 rfl ?_
          refine V_iload dX5_readsPerson_83 rfl ?_
          refine Vm_iast dX5_readsPerson_85 (by first | rfl | assumption) (by show _ < 9; omega) (by decide) ?_
          refine V_aload_n dX5_readsPerson_86 rfl ?_
          refine Vm_getA 4 dX5_readsPerson_87 q1168 (by decide) ?_
          refine V_iload_n dX5_readsPerson_90 rfl ?_
          refine V_iload dX5_readsPerson_91 rfl ?_
          refine V_bipush dX5_readsPerson_93 lb_48 ?_
          refine V_isub dX5_readsPerson_95 ?_
          refine Vm_iast dX5_readsPerson_96 (by first | rfl | assumption) (by show _ < 9; omega) (by decide) ?_
          refine V_iconst dX5_readsPerson_97 li_2 ?_
          exact V_ireturn dX5_readsPerson_98 rfl (hQ _ _ ⟨_, rfl, ⟨by unfold rdP rdPG; rw [if_neg c53, ← hy, if_neg c59, if_pos c73], by unfold rdP rdPG; rw [if_neg c53, ← hy, if_neg c59, if_pos c73]⟩⟩)
        · refine V_iconst dX5_readsPerson_76 li_1 ?_
          exact V_ireturn dX5_readsPerson_77 rfl (hQ _ _ ⟨_, rfl, ⟨by unfold rdP rdPG; rw [if_neg c53, ← hy, if_neg c59, if_neg c73], by unfold rdP rdPG; rw [if_neg c53, ← hy, if_neg c59, if_neg c73]⟩⟩)
      · refine V_iconst dX5_readsPerson_62 li_0 ?_
        exact V_ireturn dX5_readsPerson_63 rfl (hQ _ _ ⟨_, rfl, ⟨by unfold rdP rdPG; rw [if_neg c53, ← hy, if_pos c59], by unfold rdP rdPG; rw [if_neg c53, ← hy, if_pos c59]⟩⟩)
  refine V_aload_n dX5_readsPerson_0 rfl ?_
  refine V_iconst dX5_readsPerson_1 li_0 ?_
  refine V_iload_n dX5_readsPerson_2 rfl ?_
  refine Vm_callIF (m_byteAt l _ _ _ (by omega) h9 (by omega)) dX5_readsPerson_3 (lw_V q1335 q1337 qs46 q103 q1338) hv_X5_byteAt (by decide) rfl (Nat.le_of_ble_eq_true rfl) ?_
  refine V_istore_n dX5_readsPerson_6 rfl (Nat.le_of_ble_eq_true rfl) (Nat.le_of_ble_eq_true rfl) ?_
  refine V_iload_n dX5_readsPerson_7 rfl ?_
  refine V_bipush dX5_readsPerson_8 lb_109 ?_
  refine V_icmp_ne (tgt := 17) dX5_readsPerson_10 (by decide) (fun c10 => ?_) (fun c10 => ?_)
  · refine V_iload_n dX5_readsPerson_17 rfl ?_
    refine V_bipush dX5_readsPerson_18 lb_115 ?_
    refine V_icmp_ne (tgt := 27) dX5_readsPerson_20 (by decide) (fun c20 => ?_) (fun c20 => ?_)
    · refine V_iload_n dX5_readsPerson_27 rfl ?_
      refine V_bipush dX5_readsPerson_28 lb_97 ?_
      refine V_icmp_ne (tgt := 37) dX5_readsPerson_30 (by decide) (fun c30 => ?_) (fun c30 => ?_)
      · refine V_iconst dX5_readsPerson_37 li_m1 ?_
        exact J38 _ (by unfold sortI; rw [if_neg c10, if_neg c20, if_neg c30])
      · refine V_iconst dX5_readsPerson_33 li_2 ?_
        refine V_goto (tgt := 38) dX5_readsPerson_34 (by decide) ?_
        exact J38 _ (by unfold sortI; rw [if_neg c10, if_neg c20, if_pos c30])
    · refine V_iconst dX5_readsPerson_23 li_1 ?_
      refine V_goto (tgt := 38) dX5_readsPerson_24 (by decide) ?_
      exact J38 _ (by unfold sortI; rw [if_neg c10, if_pos c20])
  · refine V_iconst dX5_readsPerson_13 li_0 ?_
    refine V_goto (tgt := 38) dX5_readsPerson_14 (by decide) ?_
    exact J38 _ (by unfold sortI; rw [if_pos c10])
set_option maxHeartbeats 4000000 in
theorem m_readsPromise (l : Launch) (S : xSt) (n a : Nat) (hS : tI S) (hn : n ≤ 10) (ha : a < 1000) : Cm l yX5_readsPromise cX5_readsPromise 7 (some .int) 1 [.int (nI n), .int (nI a)] S (fun r S' => ∃ x, r = some (.int x) ∧ x = (rdQ n a S).1 ∧ S' = (rdQ n a S).2) := by
  refine Cm_start (ls := [some (.ref 1000), some (.int (nI n)), some (.int (nI a)), none, none, none, none]) (by decide) rfl (Nat.le_of_ble_eq_true rfl) ?_
  intro Q hQ
  have h9 := tI_49 hS (show 1 < 2 by omega)
  refine V_aload_n dX5_readsPromise_0 rfl ?_
  refine V_iconst dX5_readsPromise_1 li_1 ?_
  refine V_iload_n dX5_readsPromise_2 rfl ?_
  refine Vm_callIF (m_byteAt l _ _ _ (by omega) h9 (by omega)) dX5_readsPromise_3 (lw_V q1335 q1337 qs46 q103 q1338) hv_X5_byteAt (by decide) rfl (Nat.le_of_ble_eq_true rfl) ?_
  refine V_istore_n dX5_readsPromise_6 rfl (Nat.le_of_ble_eq_true rfl) (Nat.le_of_ble_eq_true rfl) ?_
  refine V_aload_n dX5_readsPromise_7 rfl ?_
  refine V_iconst dX5_readsPromise_8 li_1 ?_
  refine V_iload_n dX5_readsPromise_9 rfl ?_
  refine V_iconst dX5_readsPromise_10 li_1 ?_
  refine V_iaddN dX5_readsPromise_11 ?_
  refine Vm_callIF (m_byteAt l _ _ _ (by omega) h9 (by omega)) dX5_readsPromise_12 (lw_V q1335 q1337 qs46 q103 q1338) hv_X5_byteAt (by decide) rfl (Nat.le_of_ble_eq_true rfl) ?_
  refine V_istore dX5_readsPromise_15 rfl (Nat.le_of_ble_eq_true rfl) (Nat.le_of_ble_eq_true rfl) ?_
  refine V_aload_n dX5_readsPromise_17 rfl ?_
  refine V_iconst dX5_readsPromise_18 li_1 ?_
  refine V_iload_n dX5_readsPromise_19 rfl ?_
  refine V_iconst dX5_readsPromise_20 li_2 ?_
  refine V_iaddN dX5_readsPromise_21 ?_
  refine Vm_callIF (m_byteAt l _ _ _ (by omega) h9 (by omega)) dX5_readsPromise_22 (lw_V q1335 q1337 qs46 q103 q1338) hv_X5_byteAt (by decide) rfl (Nat.le_of_ble_eq_true rfl) ?_
  refine V_istore dX5_readsPromise_25 rfl (Nat.le_of_ble_eq_true rfl) (Nat.le_of_ble_eq_true rfl) ?_
  refine V_aload_n dX5_readsPromise_27 rfl ?_
  refine V_iconst dX5_readsPromise_28 li_1 ?_
  refine V_iload_n dX5_readsPromise_29 rfl ?_
  refine V_iconst dX5_readsPromise_30 li_3 ?_
  refine V_iaddN dX5_readsPromise_31 ?_
  refine Vm_callIF (m_byteAt l _ _ _ (by omega) h9 (by omega)) dX5_readsPromise_32 (lw_V q1335 q1337 qs46 q103 q1338) hv_X5_byteAt (by decide) rfl (Nat.le_of_ble_eq_true rfl) ?_
  refine V_istore dX5_readsPromise_35 rfl (Nat.le_of_ble_eq_true rfl) (Nat.le_of_ble_eq_true rfl) ?_
  refine V_iload_n dX5_readsPromise_37 rfl ?_
  refine V_bipush dX5_readsPromise_38 lb_10 ?_
  refine V_icmp_eqN (tgt := 54) dX5_readsPromise_40 (by decide) (by omega) (by omega) (fun c40 => ?_) (fun c40 => ?_)
  · refine V_iconst dX5_readsPromise_54 li_0 ?_
    exact V_ireturn dX5_readsPromise_55 rfl (hQ _ _ ⟨_, rfl, ⟨by unfold rdQ rdQG; rw [if_pos c40], by unfold rdQ rdQG; rw [if_pos c40]⟩⟩)
  · refine V_iload_n dX5_readsPromise_43 rfl ?_
    refine V_bipush dX5_readsPromise_44 lb_97 ?_
    refine V_bipush dX5_readsPromise_46 lb_104 ?_
    refine Vs_callIF (m_in l _ _ _) dX5_readsPromise_48 (lw_S q1308 q1309 q103 q1310) hs_X5_in (by decide) rfl (Nat.le_of_ble_eq_true rfl) ?_
    refine V_if_neB (tgt := 56) dX5_readsPromise_51 (by decide) (fun c51 => ?_) (fun c51 => ?_)
    · refine V_iload dX5_readsPromise_56 rfl ?_
      refine V_bipush dX5_readsPromise_58 lb_49 ?_
      refine V_bipush dX5_readsPromise_60 lb_57 ?_
      refine Vs_callIF (m_in l _ _ _) dX5_readsPromise_62 (lw_S q1308 q1309 q103 q1310) hs_X5_in (by decide) rfl (Nat.le_of_ble_eq_true rfl) ?_
      refine V_if_neB (tgt := 70) dX5_readsPromise_65 (by decide) (fun c65 => ?_) (fun c65 => ?_)
      · refine V_iload dX5_readsPromise_70 rfl ?_
        refine V_bipush dX5_readsPromise_72 lb_97 ?_
        refine V_bipush dX5_readsPromise_74 lb_120 ?_
        refine Vs_callIF (m_in l _ _ _) dX5_readsPromise_76 (lw_S q1308 q1309 q103 q1310) hs_X5_in (by decide) rfl (Nat.le_of_ble_eq_true rfl) ?_
        refine V_if_neB (tgt := 84) dX5_readsPromise_79 (by decide) (fun c79 => ?_) (fun c79 => ?_)
        · refine V_iload dX5_readsPromise_84 rfl ?_
          refine V_bipush dX5_readsPromise_86 lb_97 ?_
          refine V_bipush dX5_readsPromise_88 lb_120 ?_
          refine Vs_callIF (m_in l _ _ _) dX5_readsPromise_90 (lw_S q1308 q1309 q103 q1310) hs_X5_in (by decide) rfl (Nat.le_of_ble_eq_true rfl) ?_
          refine V_if_neB (tgt := 98) dX5_readsPromise_93 (by decide) (fun c93 => ?_) (fun c93 => ?_)
          · refine V_aload_n dX5_readsPromise_98 rfl ?_
            refine Vm_getA 6 dX5_readsPromise_99 q1170 (by decide) ?_
            refine V_iload_n dX5_readsPromise_102 rfl ?_
            refine V_iload_n dX5_readsPromise_103 rfl ?_
            refine V_bipush dX5_readsPromise_104 lb_97 ?_
            refine V_isub dX5_readsPromise_106 ?_
            refine Vm_iast dX5_readsPromise_107 (by first | rfl | assumption) (by show _ < 12; omega) (by decide) ?_
            refine V_aload_n dX5_readsPromise_108 rfl ?_
            refine Vm_getA 7 dX5_readsPromise_109 q1171 (by decide) ?_
            refine V_iload_n dX5_readsPromise_112 rfl ?_
            refine V_iload dX5_readsPromise_113 rfl ?_
            refine V_bipush dX5_readsPromise_115 lb_48 ?_
            refine V_isub dX5_readsPromise_117 ?_
            refine Vm_iast dX5_readsPromise_118 (by first | rfl | assumption) (by show _ < 12; omega) (by decide) ?_
            refine V_aload_n dX5_readsPromise_119 rfl ?_
            refine Vm_getA 8 dX5_readsPromise_120 q1172 (by decide) ?_
            refine V_iload_n dX5_readsPromise_123 rfl ?_
            refine V_iload dX5_readsPromise_124 rfl ?_
            refine V_bipush dX5_readsPromise_126 lb_97 ?_
            refine V_isub dX5_readsPromise_128 ?_
            refine Vm_iast dX5_readsPromise_129 (by first | rfl | assumption) (by show _ < 12; omega) (by decide) ?_
            refine V_aload_n dX5_readsPromise_130 rfl ?_
            refine Vm_getA 9 dX5_readsPromise_131 q1173 (by decide) ?_
            refine V_iload_n dX5_readsPromise_134 rfl ?_
            refine V_iload dX5_readsPromise_135 rfl ?_
            refine V_bipush dX5_readsPromise_137 lb_97 ?_
            refine V_isub dX5_readsPromise_139 ?_
            refine Vm_iast dX5_readsPromise_140 (by first | rfl | assumption) (by show _ < 12; omega) (by decide) ?_
            refine V_iconst dX5_readsPromise_141 li_4 ?_
            exact V_ireturn dX5_readsPromise_142 rfl (hQ _ _ ⟨_, rfl, ⟨by unfold rdQ rdQG; rw [if_neg c40, if_pos c51, if_pos c65, if_pos c79, if_pos c93], by unfold rdQ rdQG; rw [if_neg c40, if_pos c51, if_pos c65, if_pos c79, if_pos c93]⟩⟩)
          · refine V_iconst dX5_readsPromise_96 li_3 ?_
            exact V_ireturn dX5_readsPromise_97 rfl (hQ _ _ ⟨_, rfl, ⟨by unfold rdQ rdQG; rw [if_neg c40, if_pos c51, if_pos c65, if_pos c79, if_neg c93], by unfold rdQ rdQG; rw [if_neg c40, if_pos c51, if_pos c65, if_pos c79, if_neg c93]⟩⟩)
        · refine V_iconst dX5_readsPromise_82 li_2 ?_
          exact V_ireturn dX5_readsPromise_83 rfl (hQ _ _ ⟨_, rfl, ⟨by unfold rdQ rdQG; rw [if_neg c40, if_pos c51, if_pos c65, if_neg c79], by unfold rdQ rdQG; rw [if_neg c40, if_pos c51, if_pos c65, if_neg c79]⟩⟩)
      · refine V_iconst dX5_readsPromise_68 li_1 ?_
        exact V_ireturn dX5_readsPromise_69 rfl (hQ _ _ ⟨_, rfl, ⟨by unfold rdQ rdQG; rw [if_neg c40, if_pos c51, if_neg c65], by unfold rdQ rdQG; rw [if_neg c40, if_pos c51, if_neg c65]⟩⟩)
    · refine V_iconst dX5_readsPromise_54 li_0 ?_
      exact V_ireturn dX5_readsPromise_55 rfl (hQ _ _ ⟨_, rfl, ⟨by unfold rdQ rdQG; rw [if_neg c40, if_neg c51], by unfold rdQ rdQG; rw [if_neg c40, if_neg c51]⟩⟩)
theorem rdP_fr (n a : Nat) (S : xSt) {r : Nat} (h : r ≠ 3 ∧ r ≠ 4) : (rdP n a S).2 r = S r := by
  unfold rdP rdPG
  split
  · rfl
  split
  · rfl
  split
  · funext i
    exact (mwr_r _ _ _ _ h.2).trans (mwr_r _ _ _ _ h.1)
  · rfl
theorem rdQ_fr (n a : Nat) (S : xSt) {r : Nat} (h : r ≠ 6 ∧ r ≠ 7 ∧ r ≠ 8 ∧ r ≠ 9) : (rdQ n a S).2 r = S r := by
  unfold rdQ rdQG
  split
  · rfl
  split
  · split
    · split
      · split
        · funext i
          exact (((mwr_r _ _ _ _ h.2.2.2).trans (mwr_r _ _ _ _ h.2.2.1)).trans (mwr_r _ _ _ _ h.2.1)).trans (mwr_r _ _ _ _ h.1)
        · rfl
      · rfl
    · rfl
  · rfl
theorem rdP_n {n a : Nat} {S : xSt} (h : nI 2 ≤ (rdP n a S).1) : n ≠ 8 := by
  intro e
  unfold rdP rdPG at h
  rw [if_pos e] at h
  exact absurd h (show ¬ nI 2 ≤ nI 0 by decide +kernel)
theorem rdQ_n {n a : Nat} {S : xSt} (h : nI 4 ≤ (rdQ n a S).1) : n ≠ 10 := by
  intro e
  unfold rdQ rdQG at h
  rw [if_pos e] at h
  exact absurd h (show ¬ nI 4 ≤ nI 0 by decide +kernel)
def finF0 (n : Nat) (S : xSt) : xSt := mwr (mwr S 2 0 (nI n)) 5 0 ((mwr S 2 0 (nI n)) 5 0)
def finF1 (n : Nat) (S : xSt) : xSt := mwr (mwr S 2 0 (S 2 0)) 5 0 (nI n)
theorem finF0_fr (n : Nat) (S : xSt) {r : Nat} (h : r ≠ 2) : finF0 n S r = S r := by
  unfold finF0
  rw [mwr_same]
  funext i
  exact mwr_r _ _ _ _ h
theorem finF1_fr (n : Nat) (S : xSt) {r : Nat} (h : r ≠ 5) : finF1 n S r = S r := by
  unfold finF1
  rw [mwr_same]
  funext i
  exact mwr_r _ _ _ _ h
theorem tI_of {S S' : xSt} (h : S' 0 = S 0) (hS : tI S) : tI S' := by unfold tI at *; rw [h]; exact hS
/-- one part of a text, then the rest by K -/
def partK (t sz : Nat) (rd : Nat → Nat → xSt → Int32 × xSt) (fin : Nat → xSt → xSt) (K : Nat → Nat → xSt → Int32 × xSt) (n a : Nat) (S : xSt) : Int32 × xSt :=
  if nI sz ≤ (rd n a S).1 then (if nI (a + sz) = (rd n a S).2 0 t then (-1, fin (n + 1) (rd n a S).2) else if tbF (rd n a S).2 t (a + sz) = nI 59 then K (n + 1) (a + sz + 1) (rd n a S).2 else (nI (a + sz), (rd n a S).2)) else (nI a + (rd n a S).1, (rd n a S).2)
def partF (t sz : Nat) (rd : Nat → Nat → xSt → Int32 × xSt) (fin : Nat → xSt → xSt) : Nat → Nat → Nat → xSt → Int32 × xSt
  | 0, _, _, S => (-1, S)
  | f + 1, n, a, S => if nI a < S 0 t then partK t sz rd fin (partF t sz rd fin f) n a S else if nI a ≤ 0 then (-1, S) else partK t sz rd fin (partF t sz rd fin f) n a S
def partsF0 (S : xSt) : Int32 × xSt := partF 0 2 rdP finF0 9 0 0 (finF0 0 S)
def partsF1 (S : xSt) : Int32 × xSt := partF 1 4 rdQ finF1 11 0 0 (finF1 0 S)
theorem n0n0 : nI 0 = nI 0 := rfl

set_option maxHeartbeats 4000000 in
theorem m_readsParts0 (l : Launch) (S : xSt) (hS : tI S) : Cm l yX5_readsParts cX5_readsParts 6 (some .int) 2 [.int (nI 0)] S (fun r S' => ∃ x, r = some (.int x) ∧ x = (partsF0 S).1 ∧ S' = (partsF0 S).2) := by
  refine Cm_start (ls := [some (.ref 1000), some (.int (nI 0)), none, none, none, none]) (by decide) rfl (Nat.le_of_ble_eq_true rfl) ?_
  intro Q hQ
  have L48 : ∀ (j : Nat) (n a : Nat) (S1 : xSt) (hj : n + j = 9) (hn : n ≤ 8) (ha : a = 3 * n) (h1 : tI S1) (hR : partF 0 2 rdP finF0 j n a S1 = partsF0 S), V l (yX5_readsParts.cls, cX5_readsParts, 6, (some .int), [], yX5_readsParts.name) (rmD 2 0 0, xF0, Q, xX0) 48 [some (.ref 1000), some (.int (nI 0)), some (.int (nI 2)), some (.int (nI n)), some (.int (nI a)), none] [] (mW S1) 0 0 := by
    intro j
    induction j with
    | zero =>
      intro n a S1 hj hn ha h1 hR
      omega
    | succ j ih =>
      intro n a S1 hj hn ha h1 hR
      have J64 : ∀ (hK : partK 0 2 rdP finF0 (partF 0 2 rdP finF0 j) n a S1 = partsF0 S), V l (yX5_readsParts.cls, cX5_readsParts, 6, (some .int), [], yX5_readsParts.name) (rmD 2 0 0, xF0, Q, xX0) 64 [some (.ref 1000), some (.int (nI 0)), some (.int (nI 2)), some (.int (nI n)), some (.int (nI a)), none] [] (mW S1) 0 0 := by
        intro hK
        refine V_iload_n dX5_readsParts_64 rfl ?_
        refine V_if_ne (tgt := 78) dX5_readsParts_65 (by decide) (fun c65 => absurd nI_0 c65) (fun _ => ?_)
        refine V_aload_n dX5_readsParts_68 rfl ?_
        refine V_iload_n dX5_readsParts_69 rfl ?_
        refine V_iload dX5_readsParts_70 rfl ?_
        refine Vm_callIF (m_readsPerson l _ _ _ h1 (by omega) (by omega)) dX5_readsParts_72 (lw_V q1331 q1333 qs45 q103 q1334) hv_X5_readsPerson (by decide) rfl (Nat.le_of_ble_eq_true rfl) ?_
        refine V_goto (tgt := 85) dX5_readsParts_75 (by decide) ?_
        refine V_istore dX5_readsParts_85 rfl (Nat.le_of_ble_eq_true rfl) (Nat.le_of_ble_eq_true rfl) ?_
        refine V_iload dX5_readsParts_87 rfl ?_
        refine V_iload_n dX5_readsParts_89 rfl ?_
        refine V_icmp_ge (tgt := 99) dX5_readsParts_90 (by decide) (fun c90 => ?_) (fun c90 => ?_)
        · refine V_iinc dX5_readsParts_99 rfl (iinc_1 _) rfl (Nat.le_of_ble_eq_true rfl) ?_
          refine V_iload dX5_readsParts_102 rfl ?_
          refine V_iload_n dX5_readsParts_104 rfl ?_
          refine V_iaddN dX5_readsParts_105 ?_
          refine V_istore dX5_readsParts_106 rfl (Nat.le_of_ble_eq_true rfl) (Nat.le_of_ble_eq_true rfl) ?_
          refine V_iload dX5_readsParts_108 rfl ?_
          refine V_aload_n dX5_readsParts_110 rfl ?_
          refine Vm_getA 0 dX5_readsParts_111 q1164 (by decide) ?_
          refine V_iload_n dX5_readsParts_114 rfl ?_
          refine Vm_iald dX5_readsParts_115 (by first | rfl | assumption) (by show _ < 2; omega) (by decide) ?_
          refine V_icmp_ne (tgt := 154) dX5_readsParts_116 (by decide) (fun c116 => ?_) (fun c116 => ?_)
          · refine V_aload_n dX5_readsParts_154 rfl ?_
            refine V_iload_n dX5_readsParts_155 rfl ?_
            refine V_iload dX5_readsParts_156 rfl ?_
            refine Vm_callIF (m_byteAt l _ _ _ (by omega) (tI_49 (tI_of (rdP_fr n a S1 (by decide)) h1) (by omega)) (by omega)) dX5_readsParts_158 (lw_V q1335 q1337 qs46 q103 q1338) hv_X5_byteAt (by decide) rfl (Nat.le_of_ble_eq_true rfl) ?_
            refine V_bipush dX5_readsParts_161 lb_59 ?_
            refine V_icmp_eq (tgt := 169) dX5_readsParts_163 (by decide) (fun c163 => ?_) (fun c163 => ?_)
            · refine V_iinc dX5_readsParts_169 rfl (iinc_1 _) rfl (Nat.le_of_ble_eq_true rfl) ?_
              refine V_goto (tgt := 48) dX5_readsParts_172 (by decide) ?_
              refine V_forget 5 ?_
              exact ih (n + 1) (a + 2 + 1) _ (by omega) (by have := rdP_n c90; omega) (by omega) (tI_of (rdP_fr n a S1 (by decide)) h1) (by rw [← hK]; unfold partK; rw [if_pos c90, if_neg c116, if_pos c163])
            · refine V_iload dX5_readsParts_166 rfl ?_
              exact V_ireturn dX5_readsParts_168 rfl (hQ _ _ ⟨_, rfl, ⟨by rw [← hK]; unfold partK; rw [if_pos c90, if_neg c116, if_neg c163], by rw [← hK]; unfold partK; rw [if_pos c90, if_neg c116, if_neg c163]⟩⟩)
          · refine V_aload_n dX5_readsParts_119 rfl ?_
            refine V_iload_n dX5_readsParts_120 rfl ?_
            refine V_if_ne (tgt := 128) dX5_readsParts_121 (by decide) (fun c121 => absurd nI_0 c121) (fun _ => ?_)
            refine V_iload_n dX5_readsParts_124 rfl ?_
            refine V_goto (tgt := 132) dX5_readsParts_125 (by decide) ?_
            refine Vm_putI 2 dX5_readsParts_132 q1166 (by decide) ?_
            refine V_aload_n dX5_readsParts_135 rfl ?_
            refine V_iload_n dX5_readsParts_136 rfl ?_
            refine V_iconst dX5_readsParts_137 li_1 ?_
            refine V_icmp_ne (tgt := 145) dX5_readsParts_138 (by decide) (fun _ => ?_) (fun c138 => absurd c138 n01)
            refine V_aload_n dX5_readsParts_145 rfl ?_
            refine Vm_getI 5 dX5_readsParts_146 q1169 (by decide) ?_
            refine Vm_putI 5 dX5_readsParts_149 q1169 (by decide) ?_
            refine V_iconst dX5_readsParts_152 li_m1 ?_
            exact V_ireturn dX5_readsParts_153 rfl (hQ _ _ ⟨_, rfl, ⟨by rw [← hK]; unfold partK; rw [if_pos c90, if_pos c116], by rw [← hK]; unfold partK; rw [if_pos c90, if_pos c116]; rfl⟩⟩)
        · refine V_iload dX5_readsParts_93 rfl ?_
          refine V_iload dX5_readsParts_95 rfl ?_
          refine V_iadd dX5_readsParts_97 ?_
          exact V_ireturn dX5_readsParts_98 rfl (hQ _ _ ⟨_, rfl, ⟨by rw [← hK]; unfold partK; rw [if_neg c90], by rw [← hK]; unfold partK; rw [if_neg c90]⟩⟩)
      refine V_iload dX5_readsParts_48 rfl ?_
      refine V_aload_n dX5_readsParts_50 rfl ?_
      refine Vm_getA 0 dX5_readsParts_51 q1164 (by decide) ?_
      refine V_iload_n dX5_readsParts_54 rfl ?_
      refine Vm_iald dX5_readsParts_55 (by first | rfl | assumption) (by show _ < 2; omega) (by decide) ?_
      refine V_icmp_lt (tgt := 64) dX5_readsParts_56 (by decide) (fun c56 => ?_) (fun c56 => ?_)
      · exact J64 (by rw [← hR]; unfold partF; rw [if_pos c56])
      · refine V_iload dX5_readsParts_59 rfl ?_
        refine V_if_le (tgt := 175) dX5_readsParts_61 (by decide) (fun c61 => ?_) (fun c61 => ?_)
        · refine V_iconst dX5_readsParts_175 li_m1 ?_
          exact V_ireturn dX5_readsParts_176 rfl (hQ _ _ ⟨_, rfl, ⟨by rw [← hR]; unfold partF; rw [if_neg c56, if_pos c61], by rw [← hR]; unfold partF; rw [if_neg c56, if_pos c61]⟩⟩)
        · exact J64 (by rw [← hR]; unfold partF; rw [if_neg c56, if_neg c61])
  refine V_iload_n dX5_readsParts_0 rfl ?_
  refine V_if_ne (tgt := 8) dX5_readsParts_1 (by decide) (fun c1 => absurd nI_0 c1) (fun _ => ?_)
  refine V_iconst dX5_readsParts_4 li_2 ?_
  refine V_goto (tgt := 9) dX5_readsParts_5 (by decide) ?_
  refine V_istore_n dX5_readsParts_9 rfl (Nat.le_of_ble_eq_true rfl) (Nat.le_of_ble_eq_true rfl) ?_
  refine V_iconst dX5_readsParts_10 li_0 ?_
  refine V_istore_n dX5_readsParts_11 rfl (Nat.le_of_ble_eq_true rfl) (Nat.le_of_ble_eq_true rfl) ?_
  refine V_iconst dX5_readsParts_12 li_0 ?_
  refine V_istore dX5_readsParts_13 rfl (Nat.le_of_ble_eq_true rfl) (Nat.le_of_ble_eq_true rfl) ?_
  refine V_aload_n dX5_readsParts_15 rfl ?_
  refine V_iload_n dX5_readsParts_16 rfl ?_
  refine V_if_ne (tgt := 24) dX5_readsParts_17 (by decide) (fun c17 => absurd nI_0 c17) (fun _ => ?_)
  refine V_iconst dX5_readsParts_20 li_0 ?_
  refine V_goto (tgt := 28) dX5_readsParts_21 (by decide) ?_
  refine Vm_putI 2 dX5_readsParts_28 q1166 (by decide) ?_
  refine V_aload_n dX5_readsParts_31 rfl ?_
  refine V_iload_n dX5_readsParts_32 rfl ?_
  refine V_iconst dX5_readsParts_33 li_1 ?_
  refine V_icmp_ne (tgt := 41) dX5_readsParts_34 (by decide) (fun _ => ?_) (fun c34 => absurd c34 n01)
  refine V_aload_n dX5_readsParts_41 rfl ?_
  refine Vm_getI 5 dX5_readsParts_42 q1169 (by decide) ?_
  refine Vm_putI 5 dX5_readsParts_45 q1169 (by decide) ?_
  exact L48 9 0 0 _ (by omega) (by omega) rfl (tI_of (finF0_fr 0 S (by decide)) hS) rfl
set_option maxHeartbeats 4000000 in
theorem m_readsParts1 (l : Launch) (S : xSt) (hS : tI S) : Cm l yX5_readsParts cX5_readsParts 6 (some .int) 2 [.int (nI 1)] S (fun r S' => ∃ x, r = some (.int x) ∧ x = (partsF1 S).1 ∧ S' = (partsF1 S).2) := by
  refine Cm_start (ls := [some (.ref 1000), some (.int (nI 1)), none, none, none, none]) (by decide) rfl (Nat.le_of_ble_eq_true rfl) ?_
  intro Q hQ
  have L48 : ∀ (j : Nat) (n a : Nat) (S1 : xSt) (hj : n + j = 11) (hn : n ≤ 10) (ha : a = 5 * n) (h1 : tI S1) (hR : partF 1 4 rdQ finF1 j n a S1 = partsF1 S), V l (yX5_readsParts.cls, cX5_readsParts, 6, (some .int), [], yX5_readsParts.name) (rmD 2 0 0, xF0, Q, xX0) 48 [some (.ref 1000), some (.int (nI 1)), some (.int (nI 4)), some (.int (nI n)), some (.int (nI a)), none] [] (mW S1) 0 0 := by
    intro j
    induction j with
    | zero =>
      intro n a S1 hj hn ha h1 hR
      omega
    | succ j ih =>
      intro n a S1 hj hn ha h1 hR
      have J64 : ∀ (hK : partK 1 4 rdQ finF1 (partF 1 4 rdQ finF1 j) n a S1 = partsF1 S), V l (yX5_readsParts.cls, cX5_readsParts, 6, (some .int), [], yX5_readsParts.name) (rmD 2 0 0, xF0, Q, xX0) 64 [some (.ref 1000), some (.int (nI 1)), some (.int (nI 4)), some (.int (nI n)), some (.int (nI a)), none] [] (mW S1) 0 0 := by
        intro hK
        refine V_iload_n dX5_readsParts_64 rfl ?_
        refine V_if_ne (tgt := 78) dX5_readsParts_65 (by decide) (fun _ => ?_) (fun c65 => absurd c65 nI1_ne0)
        refine V_aload_n dX5_readsParts_78 rfl ?_
        refine V_iload_n dX5_readsParts_79 rfl ?_
        refine V_iload dX5_readsParts_80 rfl ?_
        refine Vm_callIF (m_readsPromise l _ _ _ h1 (by omega) (by omega)) dX5_readsParts_82 (lw_V q1339 q1341 qs47 q103 q1342) hv_X5_readsPromise (by decide) rfl (Nat.le_of_ble_eq_true rfl) ?_
        refine V_istore dX5_readsParts_85 rfl (Nat.le_of_ble_eq_true rfl) (Nat.le_of_ble_eq_true rfl) ?_
        refine V_iload dX5_readsParts_87 rfl ?_
        refine V_iload_n dX5_readsParts_89 rfl ?_
        refine V_icmp_ge (tgt := 99) dX5_readsParts_90 (by decide) (fun c90 => ?_) (fun c90 => ?_)
        · refine V_iinc dX5_readsParts_99 rfl (iinc_1 _) rfl (Nat.le_of_ble_eq_true rfl) ?_
          refine V_iload dX5_readsParts_102 rfl ?_
          refine V_iload_n dX5_readsParts_104 rfl ?_
          refine V_iaddN dX5_readsParts_105 ?_
          refine V_istore dX5_readsParts_106 rfl (Nat.le_of_ble_eq_true rfl) (Nat.le_of_ble_eq_true rfl) ?_
          refine V_iload dX5_readsParts_108 rfl ?_
          refine V_aload_n dX5_readsParts_110 rfl ?_
          refine Vm_getA 0 dX5_readsParts_111 q1164 (by decide) ?_
          refine V_iload_n dX5_readsParts_114 rfl ?_
          refine Vm_iald dX5_readsParts_115 (by first | rfl | assumption) (by show _ < 2; omega) (by decide) ?_
          refine V_icmp_ne (tgt := 154) dX5_readsParts_116 (by decide) (fun c116 => ?_) (fun c116 => ?_)
          · refine V_aload_n dX5_readsParts_154 rfl ?_
            refine V_iload_n dX5_readsParts_155 rfl ?_
            refine V_iload dX5_readsParts_156 rfl ?_
            refine Vm_callIF (m_byteAt l _ _ _ (by omega) (tI_49 (tI_of (rdQ_fr n a S1 (by decide)) h1) (by omega)) (by omega)) dX5_readsParts_158 (lw_V q1335 q1337 qs46 q103 q1338) hv_X5_byteAt (by decide) rfl (Nat.le_of_ble_eq_true rfl) ?_
            refine V_bipush dX5_readsParts_161 lb_59 ?_
            refine V_icmp_eq (tgt := 169) dX5_readsParts_163 (by decide) (fun c163 => ?_) (fun c163 => ?_)
            · refine V_iinc dX5_readsParts_169 rfl (iinc_1 _) rfl (Nat.le_of_ble_eq_true rfl) ?_
              refine V_goto (tgt := 48) dX5_readsParts_172 (by decide) ?_
              refine V_forget 5 ?_
              exact ih (n + 1) (a + 4 + 1) _ (by omega) (by have := rdQ_n c90; omega) (by omega) (tI_of (rdQ_fr n a S1 (by decide)) h1) (by rw [← hK]; unfold partK; rw [if_pos c90, if_neg c116, if_pos c163])
            · refine V_iload dX5_readsParts_166 rfl ?_
              exact V_ireturn dX5_readsParts_168 rfl (hQ _ _ ⟨_, rfl, ⟨by rw [← hK]; unfold partK; rw [if_pos c90, if_neg c116, if_neg c163], by rw [← hK]; unfold partK; rw [if_pos c90, if_neg c116, if_neg c163]⟩⟩)
          · refine V_aload_n dX5_readsParts_119 rfl ?_
            refine V_iload_n dX5_readsParts_120 rfl ?_
            refine V_if_ne (tgt := 128) dX5_readsParts_121 (by decide) (fun _ => ?_) (fun c121 => absurd c121 nI1_ne0)
            refine V_aload_n dX5_readsParts_128 rfl ?_
            refine Vm_getI 2 dX5_readsParts_129 q1166 (by decide) ?_
            refine Vm_putI 2 dX5_readsParts_132 q1166 (by decide) ?_
            refine V_aload_n dX5_readsParts_135 rfl ?_
            refine V_iload_n dX5_readsParts_136 rfl ?_
            refine V_iconst dX5_readsParts_137 li_1 ?_
            refine V_icmp_ne (tgt := 145) dX5_readsParts_138 (by decide) (fun c138 => absurd (rfl : nI 1 = nI 1) c138) (fun _ => ?_)
            refine V_iload_n dX5_readsParts_141 rfl ?_
            refine V_goto (tgt := 149) dX5_readsParts_142 (by decide) ?_
            refine Vm_putI 5 dX5_readsParts_149 q1169 (by decide) ?_
            refine V_iconst dX5_readsParts_152 li_m1 ?_
            exact V_ireturn dX5_readsParts_153 rfl (hQ _ _ ⟨_, rfl, ⟨by rw [← hK]; unfold partK; rw [if_pos c90, if_pos c116], by rw [← hK]; unfold partK; rw [if_pos c90, if_pos c116]; rfl⟩⟩)
        · refine V_iload dX5_readsParts_93 rfl ?_
          refine V_iload dX5_readsParts_95 rfl ?_
          refine V_iadd dX5_readsParts_97 ?_
          exact V_ireturn dX5_readsParts_98 rfl (hQ _ _ ⟨_, rfl, ⟨by rw [← hK]; unfold partK; rw [if_neg c90], by rw [← hK]; unfold partK; rw [if_neg c90]⟩⟩)
      refine V_iload dX5_readsParts_48 rfl ?_
      refine V_aload_n dX5_readsParts_50 rfl ?_
      refine Vm_getA 0 dX5_readsParts_51 q1164 (by decide) ?_
      refine V_iload_n dX5_readsParts_54 rfl ?_
      refine Vm_iald dX5_readsParts_55 (by first | rfl | assumption) (by show _ < 2; omega) (by decide) ?_
      refine V_icmp_lt (tgt := 64) dX5_readsParts_56 (by decide) (fun c56 => ?_) (fun c56 => ?_)
      · exact J64 (by rw [← hR]; unfold partF; rw [if_pos c56])
      · refine V_iload dX5_readsParts_59 rfl ?_
        refine V_if_le (tgt := 175) dX5_readsParts_61 (by decide) (fun c61 => ?_) (fun c61 => ?_)
        · refine V_iconst dX5_readsParts_175 li_m1 ?_
          exact V_ireturn dX5_readsParts_176 rfl (hQ _ _ ⟨_, rfl, ⟨by rw [← hR]; unfold partF; rw [if_neg c56, if_pos c61], by rw [← hR]; unfold partF; rw [if_neg c56, if_pos c61]⟩⟩)
        · exact J64 (by rw [← hR]; unfold partF; rw [if_neg c56, if_neg c61])
  refine V_iload_n dX5_readsParts_0 rfl ?_
  refine V_if_ne (tgt := 8) dX5_readsParts_1 (by decide) (fun _ => ?_) (fun c1 => absurd c1 nI1_ne0)
  refine V_iconst dX5_readsParts_8 li_4 ?_
  refine V_istore_n dX5_readsParts_9 rfl (Nat.le_of_ble_eq_true rfl) (Nat.le_of_ble_eq_true rfl) ?_
  refine V_iconst dX5_readsParts_10 li_0 ?_
  refine V_istore_n dX5_readsParts_11 rfl (Nat.le_of_ble_eq_true rfl) (Nat.le_of_ble_eq_true rfl) ?_
  refine V_iconst dX5_readsParts_12 li_0 ?_
  refine V_istore dX5_readsParts_13 rfl (Nat.le_of_ble_eq_true rfl) (Nat.le_of_ble_eq_true rfl) ?_
  refine V_aload_n dX5_readsParts_15 rfl ?_
  refine V_iload_n dX5_readsParts_16 rfl ?_
  refine V_if_ne (tgt := 24) dX5_readsParts_17 (by decide) (fun _ => ?_) (fun c17 => absurd c17 nI1_ne0)
  refine V_aload_n dX5_readsParts_24 rfl ?_
  refine Vm_getI 2 dX5_readsParts_25 q1166 (by decide) ?_
  refine Vm_putI 2 dX5_readsParts_28 q1166 (by decide) ?_
  refine V_aload_n dX5_readsParts_31 rfl ?_
  refine V_iload_n dX5_readsParts_32 rfl ?_
  refine V_iconst dX5_readsParts_33 li_1 ?_
  refine V_icmp_ne (tgt := 41) dX5_readsParts_34 (by decide) (fun c34 => absurd (rfl : nI 1 = nI 1) c34) (fun _ => ?_)
  refine V_iconst dX5_readsParts_37 li_0 ?_
  refine V_goto (tgt := 45) dX5_readsParts_38 (by decide) ?_
  refine Vm_putI 5 dX5_readsParts_45 q1169 (by decide) ?_
  exact L48 11 0 0 _ (by omega) (by omega) rfl (tI_of (finF1_fr 0 S (by decide)) hS) rfl
def readsF (S : xSt) : xSt := (partsF1 (partsF0 S).2).2
theorem partF_0 {t sz : Nat} {rd : Nat → Nat → xSt → Int32 × xSt} {fin : Nat → xSt → xSt} {r : Nat} (h1 : ∀ n a S, (rd n a S).2 r = S r) (h2 : ∀ n S, fin n S r = S r) : ∀ f n a S, (partF t sz rd fin f n a S).2 r = S r
  | 0, _, _, _ => rfl
  | f + 1, n, a, S => by
    have hk : (partK t sz rd fin (partF t sz rd fin f) n a S).2 r = S r := by
      unfold partK
      split
      · split
        · exact (h2 _ _).trans (h1 _ _ _)
        · split
          · exact (partF_0 h1 h2 f _ _ _).trans (h1 _ _ _)
          · exact h1 _ _ _
      · exact h1 _ _ _
    unfold partF
    split
    · exact hk
    · split
      · rfl
      · exact hk
theorem partsF0_fr (S : xSt) {r : Nat} (h : r ≠ 2 ∧ r ≠ 3 ∧ r ≠ 4) : (partsF0 S).2 r = S r := (partF_0 (fun _ _ _ => rdP_fr _ _ _ ⟨h.2.1, h.2.2⟩) (fun _ _ => finF0_fr _ _ h.1) _ _ _ _).trans (finF0_fr _ _ h.1)
theorem partsF1_fr (S : xSt) {r : Nat} (h : r ≠ 5 ∧ r ≠ 6 ∧ r ≠ 7 ∧ r ≠ 8 ∧ r ≠ 9) : (partsF1 S).2 r = S r := (partF_0 (fun _ _ _ => rdQ_fr _ _ _ ⟨h.2.1, h.2.2⟩) (fun _ _ => finF1_fr _ _ h.1) _ _ _ _).trans (finF1_fr _ _ h.1)
theorem readsF_fr (S : xSt) {r : Nat} (h : r < 2 ∨ 9 < r) : readsF S r = S r := (partsF1_fr _ (by omega)).trans (partsF0_fr _ (by omega))
def faultF (t : Int32) (S : xSt) : Int32 × xSt := if nI 0 ≤ t ∧ t ≤ nI 1 then ((if t = 0 then (partsF0 S).1 else (partsF1 (partsF0 S).2).1), readsF S) else (-2, S)

set_option maxHeartbeats 4000000 in
theorem m_faultOf (l : Launch) (S : xSt) (t : Int32) (hS : tI S) : Cm l yX5_faultOf cX5_faultOf 4 (some .int) 3 [.int t] S (fun r S' => ∃ x, r = some (.int x) ∧ x = (if t = 0 then (partsF0 S).1 else (partsF1 (partsF0 S).2).1) ∧ S' = readsF S) := by
  refine Cm_start (ls := [some (.ref 1000), some (.int t), none, none]) (by decide) rfl (Nat.le_of_ble_eq_true rfl) ?_
  intro Q hQ
  refine V_aload_n dX5_faultOf_0 rfl ?_
  refine V_iconst dX5_faultOf_1 li_0 ?_
  refine Vm_callIF (m_readsParts0 l _ hS) dX5_faultOf_2 (lw_V q1327 q1329 qs44 q103 q1330) hv_X5_readsParts (by decide) rfl (Nat.le_of_ble_eq_true rfl) ?_
  refine V_istore_n dX5_faultOf_5 rfl (Nat.le_of_ble_eq_true rfl) (Nat.le_of_ble_eq_true rfl) ?_
  refine V_aload_n dX5_faultOf_6 rfl ?_
  refine V_iconst dX5_faultOf_7 li_1 ?_
  refine Vm_callIF (m_readsParts1 l _ (tI_of (partsF0_fr S (by decide)) hS)) dX5_faultOf_8 (lw_V q1327 q1329 qs44 q103 q1330) hv_X5_readsParts (by decide) rfl (Nat.le_of_ble_eq_true rfl) ?_
  refine V_istore_n dX5_faultOf_11 rfl (Nat.le_of_ble_eq_true rfl) (Nat.le_of_ble_eq_true rfl) ?_
  refine V_iload_n dX5_faultOf_12 rfl ?_
  refine V_if_ne (tgt := 20) dX5_faultOf_13 (by decide) (fun c13 => ?_) (fun c13 => ?_)
  · refine V_iload_n dX5_faultOf_20 rfl ?_
    exact V_ireturn dX5_faultOf_21 rfl (hQ _ _ ⟨_, rfl, ⟨by rw [if_neg c13], rfl⟩⟩)
  · refine V_iload_n dX5_faultOf_16 rfl ?_
    refine V_goto (tgt := 21) dX5_faultOf_17 (by decide) ?_
    exact V_ireturn dX5_faultOf_21 rfl (hQ _ _ ⟨_, rfl, ⟨by rw [if_pos c13], rfl⟩⟩)
set_option maxHeartbeats 4000000 in
theorem m_reads (l : Launch) (S : xSt) (hS : tI S) : Cm l yX5_reads cX5_reads 2 none 4 [] S (fun r S' => r = none ∧ S' = readsF S) := by
  refine Cm_start (ls := [some (.ref 1000), none]) (by decide) rfl (Nat.le_of_ble_eq_true rfl) ?_
  intro Q hQ
  refine V_aload_n dX5_reads_0 rfl ?_
  refine V_iconst dX5_reads_1 li_0 ?_
  refine Vm_callIF (m_faultOf l _ _ hS) dX5_reads_2 (lw_V q1323 q1325 qs43 q103 q1326) hv_X5_faultOf (by decide) rfl (Nat.le_of_ble_eq_true rfl) ?_
  refine V_istore_n dX5_reads_5 rfl (Nat.le_of_ble_eq_true rfl) (Nat.le_of_ble_eq_true rfl) ?_
  exact V_vreturn dX5_reads_6 rfl (hQ _ _ ⟨rfl, rfl⟩)
set_option maxHeartbeats 4000000 in
theorem m_fault (l : Launch) (S : xSt) (t : Int32) (hS : tI S) : Cm l yX5_fault cX5_fault 2 (some .int) 4 [.int t] S (fun r S' => ∃ x, r = some (.int x) ∧ x = (faultF t S).1 ∧ S' = (faultF t S).2) := by
  refine Cm_start (ls := [some (.ref 1000), some (.int t)]) (by decide) rfl (Nat.le_of_ble_eq_true rfl) ?_
  intro Q hQ
  refine V_iload_n dX5_fault_0 rfl ?_
  refine Vs_callIF (m_isText l _) dX5_fault_1 (lw_S q1305 q1306 q103 q1307) hs_X5_isText (by decide) rfl (Nat.le_of_ble_eq_true rfl) ?_
  refine V_if_eqB (tgt := 15) dX5_fault_4 (by decide) (fun c4 => ?_) (fun c4 => ?_)
  · refine V_bipush dX5_fault_15 lb_m2 ?_
    exact V_ireturn dX5_fault_17 rfl (hQ _ _ ⟨_, rfl, ⟨by unfold faultF; rw [if_neg c4], by unfold faultF; rw [if_neg c4]⟩⟩)
  · refine V_aload_n dX5_fault_7 rfl ?_
    refine V_iload_n dX5_fault_8 rfl ?_
    refine Vm_callIF (m_faultOf l _ _ hS) dX5_fault_9 (lw_V q1323 q1325 qs43 q103 q1326) hv_X5_faultOf (by decide) rfl (Nat.le_of_ble_eq_true rfl) ?_
    refine V_goto (tgt := 17) dX5_fault_12 (by decide) ?_
    exact V_ireturn dX5_fault_17 rfl (hQ _ _ ⟨_, rfl, ⟨by unfold faultF; rw [if_pos c4], by unfold faultF; rw [if_pos c4]⟩⟩)
set_option maxHeartbeats 4000000 in
theorem m_isPerson (l : Launch) (S : xSt) (v : Int32) (hS : tI S) : Cm l yX5_isPerson cX5_isPerson 2 (some .boolean) 5 [.int v] S (fun r S' => ∃ x, r = some (.int x) ∧ x = bI (nI 0 ≤ v ∧ v ≤ readsF S 2 0 - nI 1) ∧ S' = readsF S) := by
  refine Cm_start (ls := [some (.ref 1000), some (.int v)]) (by decide) rfl (Nat.le_of_ble_eq_true rfl) ?_
  intro Q hQ
  refine V_aload_n dX5_isPerson_0 rfl ?_
  refine Vm_callVF (m_reads l _ hS) dX5_isPerson_1 (lw_V q1351 q1353 qs49 q103 q1354) hv_X5_reads (by decide) rfl (Nat.le_of_ble_eq_true rfl) ?_
  refine V_iload_n dX5_isPerson_4 rfl ?_
  refine V_iconst dX5_isPerson_5 li_0 ?_
  refine V_aload_n dX5_isPerson_6 rfl ?_
  refine Vm_getI 2 dX5_isPerson_7 q1166 (by decide) ?_
  refine V_iconst dX5_isPerson_10 li_1 ?_
  refine V_isub dX5_isPerson_11 ?_
  refine Vs_callIF (m_in l _ _ _) dX5_isPerson_12 (lw_S q1308 q1309 q103 q1310) hs_X5_in (by decide) rfl (Nat.le_of_ble_eq_true rfl) ?_
  exact V_zreturn dX5_isPerson_15 rfl (by first | exact bI_nr | exact nr_0 | exact nr_1) (hQ _ _ ⟨_, rfl, ⟨rfl, rfl⟩⟩)
set_option maxHeartbeats 4000000 in
theorem m_isPromise (l : Launch) (S : xSt) (v : Int32) (hS : tI S) : Cm l yX5_isPromise cX5_isPromise 2 (some .boolean) 5 [.int v] S (fun r S' => ∃ x, r = some (.int x) ∧ x = bI (nI 0 ≤ v ∧ v ≤ readsF S 5 0 - nI 1) ∧ S' = readsF S) := by
  refine Cm_start (ls := [some (.ref 1000), some (.int v)]) (by decide) rfl (Nat.le_of_ble_eq_true rfl) ?_
  intro Q hQ
  refine V_aload_n dX5_isPromise_0 rfl ?_
  refine Vm_callVF (m_reads l _ hS) dX5_isPromise_1 (lw_V q1351 q1353 qs49 q103 q1354) hv_X5_reads (by decide) rfl (Nat.le_of_ble_eq_true rfl) ?_
  refine V_iload_n dX5_isPromise_4 rfl ?_
  refine V_iconst dX5_isPromise_5 li_0 ?_
  refine V_aload_n dX5_isPromise_6 rfl ?_
  refine Vm_getI 5 dX5_isPromise_7 q1169 (by decide) ?_
  refine V_iconst dX5_isPromise_10 li_1 ?_
  refine V_isub dX5_isPromise_11 ?_
  refine Vs_callIF (m_in l _ _ _) dX5_isPromise_12 (lw_S q1308 q1309 q103 q1310) hs_X5_in (by decide) rfl (Nat.le_of_ble_eq_true rfl) ?_
  exact V_zreturn dX5_isPromise_15 rfl (by first | exact bI_nr | exact nr_0 | exact nr_1) (hQ _ _ ⟨_, rfl, ⟨rfl, rfl⟩⟩)
