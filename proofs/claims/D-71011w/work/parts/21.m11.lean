/-! the model: years -/
set_option maxRecDepth 100000
def lcI (x : Int32) : Int32 := 1103515245 * x + nI 12345
def hN (x : Int32) : Nat := x.toBitVec.toNat / 2 ^ 16
theorem hN_lt (x : Int32) : hN x < 65536 := by
  unfold hN
  have := x.toBitVec.isLt
  omega
theorem nI_self (x : Int32) : x = nI x.toBitVec.toNat := by
  apply Int32.toBitVec_inj.mp
  show x.toBitVec = BitVec.ofNat 32 x.toBitVec.toNat
  exact (BitVec.ofNat_toNat 32 x.toBitVec ▸ (BitVec.setWidth_eq x.toBitVec).symm)
theorem hi_eq (x : Int32) : (x.toUInt32 >>> ((nI 16).toUInt32 &&& Int32.toUInt32 31)).toInt32 = nI (hN x) := by
  have h := pk_ushrN x.toBitVec.isLt (nI 16) 16 (by decide +kernel)
  rw [← nI_self x] at h
  exact h
def yrI (pr i : Nat) (now : Int32) (S : xSt) : xSt := mwr (mwr S 23 i (nI (hN (lcI now) % 24))) 24 i (nI (hN (lcI (lcI now)) % pr))
def yrK (pr : Nat) : Nat → Nat → Int32 → xSt → xSt
  | 0, _, _, S => S
  | j + 1, i, now, S => yrK pr j (i + 1) (lcI (lcI now)) (yrI pr i now S)
theorem yrK_s (pr j i : Nat) (now : Int32) (S : xSt) : yrK pr (j + 1) i now S = yrK pr j (i + 1) (lcI (lcI now)) (yrI pr i now S) := rfl
def brG (S : xSt) (p : Nat) (a : Int32) : Int32 := a + if S 29 p = nI 3 then nI 1 else nI 0
def brokenF (S : xSt) : Int32 := itA (brG S) (vN (S 5 0)) 0 (nI 0)
def yrR (seed : Int32) (kn : Nat) (R : xSt) : xSt := runsF (yrK (vN (R 5 0)) kn 0 seed (mwr R 22 0 (nI kn)))
def yearR (seed : Int32) (kn : Nat) (what : Int32) (R : xSt) : Int32 × xSt := (if what = 0 then brokenF (yrR seed kn R) else fitManyF (yrR seed kn R) 23, yrR seed kn R)
def yearF (seed : Int32) (n : Nat) (what : Int32) (R : xSt) : Int32 × xSt := yearR seed (if R 5 0 = 0 then 0 else n) what R

theorem nI_inj0 {m : Nat} (e : nI m = 0) : m < 2 ^ 31 → m = 0 := fun h => (nI_eq (b := 0) h (by decide)).mp e
set_option maxHeartbeats 4000000 in
theorem m_yearOf (l : Launch) (S : xSt) (seed : Int32) (n : Nat) (what : Int32) (hn : n ≤ 8) (hS : MI S) : Cm l yX5_yearOf cX5_yearOf 7 (some .int) 8 [.int seed, .int (nI n), .int what] S (fun r S' => ∃ x, r = some (.int x) ∧ x = (yearF seed n what (asToldF S)).1 ∧ S' = (yearF seed n what (asToldF S)).2) := by
  refine Cm_start (ls := [some (.ref 1000), some (.int seed), some (.int (nI n)), some (.int what), none, none, none]) (by decide) rfl (Nat.le_of_ble_eq_true rfl) ?_
  intro Q hQ
  have hT := m_asTold l S hS
  have hL := LI_0 hS
  obtain ⟨pp, hpp, hp0⟩ := hL.1.1
  obtain ⟨mm, hmm, hm0⟩ := hL.1.2.1
  obtain ⟨qq, hqq, hq0⟩ : bd (asToldF S 10 0) 8 := (MI_asTold hS).2.2.1
  have hvp : vN (asToldF S 2 0) = pp := by rw [hp0]; exact vN_nI (by omega)
  have hvm : vN (asToldF S 5 0) = mm := by rw [hm0]; exact vN_nI (by omega)
  have hvq : vN (asToldF S 10 0) = qq := by rw [hq0]; exact vN_nI (by omega)
  generalize asToldF S = R at hQ hT hL hp0 hm0 hq0 hvp hvm hvq 
  have hY : ∀ (kn : Nat) (hk8 : kn ≤ 8) (hmk : kn = 0 ∨ 0 < mm) (h0 : LI R (mwr R 22 0 (nI kn))) (hE : yearF seed n what R = yearR seed kn what R)(x6 : Option Value), V l (yX5_yearOf.cls, cX5_yearOf, 7, (some .int), [], yX5_yearOf.name) (rmD 8 0 0, xF0, Q, xX0) 26 [some (.ref 1000), some (.int seed), some (.int (nI n)), some (.int what), some (.int seed), some (.int (nI 0)), x6] [] (mW (mwr R 22 0 (nI kn))) 0 0 := by
    intro kn hk8 hmk h0 hE x6
    rw [hE] at hQ
    have J97 : ∀ (now : Int32) (S1 : xSt) (x5 x6 : Option Value) (h1 : LI R S1) (hR : runsF S1 = yrR seed kn R), V l (yX5_yearOf.cls, cX5_yearOf, 7, (some .int), [], yX5_yearOf.name) (rmD 8 0 0, xF0, Q, xX0) 97 [some (.ref 1000), some (.int seed), some (.int (nI n)), some (.int what), some (.int now), x5, x6] [] (mW S1) 0 0 := by
      intro now S1 x5 x6 h1 hR
      have hT1 := m_runs l S1 h1.1
      have h2 := LI_run h1
      rw [hR] at hT1 h2
      unfold yearR at hQ
      generalize yrR seed kn R = Y at hT1 h2 hQ
      have hm2 := LI_g h2 hm0 (by omega)
      have hvm2 : vN (Y 5 0) = mm := by rw [hm2]; exact vN_nI (by omega)
      have L107 : ∀ (j p : Nat) (a : Int32) (hj : p + j = mm) (hR2 : itA (brG Y) j p a = brokenF Y), V l (yX5_yearOf.cls, cX5_yearOf, 7, (some .int), [], yX5_yearOf.name) (rmD 8 0 0, xF0, Q, xX0) 107 [some (.ref 1000), some (.int seed), some (.int (nI n)), some (.int what), some (.int now), some (.int a), some (.int (nI p))] [] (mW Y) 0 0 := by
        intro j
        induction j with
        | zero =>
          intro p a hj hR2
          refine V_iload dX5_yearOf_107 rfl ?_
          refine V_aload_n dX5_yearOf_109 rfl ?_
          refine Vm_getI 5 dX5_yearOf_110 q1169 (by decide) ?_
          refine V_topi hm2 ?_
          refine V_icmp_ge (tgt := 143) dX5_yearOf_113 (by decide) (fun _ => ?_) (fun c113 => absurd (nI_le (by omega) (by omega)) c113)
          refine V_iload_n dX5_yearOf_143 rfl ?_
          refine V_if_ne (tgt := 152) dX5_yearOf_144 (by decide) (fun c144 => ?_) (fun c144 => ?_)
          · refine V_aload_n dX5_yearOf_152 rfl ?_
            refine V_bipush dX5_yearOf_153 lb_23 ?_
            refine Vm_callIF (m_fitMany l _ _ (by omega) (LI_p h2)) dX5_yearOf_155 (lw_V q1516 q1518 qs74 q103 q1519) hv_X5_fitMany (by decide) rfl (Nat.le_of_ble_eq_true rfl) ?_
            exact V_ireturn dX5_yearOf_158 rfl (hQ _ _ ⟨_, rfl, ⟨by rw [if_neg c144], rfl⟩⟩)
          · refine V_iload dX5_yearOf_147 rfl ?_
            refine V_goto (tgt := 158) dX5_yearOf_149 (by decide) ?_
            exact V_ireturn dX5_yearOf_158 rfl (hQ _ _ ⟨_, rfl, ⟨by rw [if_pos c144]; exact hR2, rfl⟩⟩)
        | succ j ih =>
          intro p a hj hR2
          refine V_iload dX5_yearOf_107 rfl ?_
          refine V_aload_n dX5_yearOf_109 rfl ?_
          refine Vm_getI 5 dX5_yearOf_110 q1169 (by decide) ?_
          refine V_topi hm2 ?_
          refine V_icmp_ge (tgt := 143) dX5_yearOf_113 (by decide) (fun c113 => absurd c113 (nI_ge (by omega) (by omega))) (fun _ => ?_)
          refine V_iload dX5_yearOf_116 rfl ?_
          refine V_aload_n dX5_yearOf_118 rfl ?_
          refine Vm_getA 29 dX5_yearOf_119 q1193 (by decide) ?_
          refine V_iload dX5_yearOf_122 rfl ?_
          refine Vm_iald dX5_yearOf_124 (by first | rfl | assumption) (by show _ < 12; omega) (by decide) ?_
          refine V_iconst dX5_yearOf_125 li_3 ?_
          refine V_icmp_ne (tgt := 133) dX5_yearOf_126 (by decide) (fun c126 => ?_) (fun c126 => ?_)
          · refine V_iconst dX5_yearOf_133 li_0 ?_
            refine V_iadd dX5_yearOf_134 ?_
            refine V_istore dX5_yearOf_135 rfl (Nat.le_of_ble_eq_true rfl) (Nat.le_of_ble_eq_true rfl) ?_
            refine V_iinc dX5_yearOf_137 rfl (iinc_1 _) rfl (Nat.le_of_ble_eq_true rfl) ?_
            refine V_goto (tgt := 107) dX5_yearOf_140 (by decide) ?_
            exact ih (p + 1) _ (by omega) (by rw [← hR2, itA_s]; unfold brG; rw [if_neg c126])
          · refine V_iconst dX5_yearOf_129 li_1 ?_
            refine V_goto (tgt := 134) dX5_yearOf_130 (by decide) ?_
            refine V_iadd dX5_yearOf_134 ?_
            refine V_istore dX5_yearOf_135 rfl (Nat.le_of_ble_eq_true rfl) (Nat.le_of_ble_eq_true rfl) ?_
            refine V_iinc dX5_yearOf_137 rfl (iinc_1 _) rfl (Nat.le_of_ble_eq_true rfl) ?_
            refine V_goto (tgt := 107) dX5_yearOf_140 (by decide) ?_
            exact ih (p + 1) _ (by omega) (by rw [← hR2, itA_s]; unfold brG; rw [if_pos c126])
      refine V_aload_n dX5_yearOf_97 rfl ?_
      refine Vm_callVF hT1 dX5_yearOf_98 (lw_V q1421 q1423 qs57 q103 q1424) hv_X5_runs (by decide) rfl (Nat.le_of_ble_eq_true rfl) ?_
      refine V_iconst dX5_yearOf_101 li_0 ?_
      refine V_istore dX5_yearOf_102 rfl (Nat.le_of_ble_eq_true rfl) (Nat.le_of_ble_eq_true rfl) ?_
      refine V_iconst dX5_yearOf_104 li_0 ?_
      refine V_istore dX5_yearOf_105 rfl (Nat.le_of_ble_eq_true rfl) (Nat.le_of_ble_eq_true rfl) ?_
      exact L107 mm 0 (nI 0) (by omega) (by unfold brokenF; rw [hvm2])
    have L26 : ∀ (j i : Nat) (now : Int32) (S1 : xSt) (x6 : Option Value) (hj : i + j = kn) (h1 : LI R S1) (h22 : S1 22 0 = nI kn) (hR : runsF (yrK mm j i now S1) = yrR seed kn R), V l (yX5_yearOf.cls, cX5_yearOf, 7, (some .int), [], yX5_yearOf.name) (rmD 8 0 0, xF0, Q, xX0) 26 [some (.ref 1000), some (.int seed), some (.int (nI n)), some (.int what), some (.int now), some (.int (nI i)), x6] [] (mW S1) 0 0 := by
      intro j
      induction j with
      | zero =>
        intro i now S1 x6 hj h1 h22 hR
        refine V_iload dX5_yearOf_26 rfl ?_
        refine V_aload_n dX5_yearOf_28 rfl ?_
        refine Vm_getI 22 dX5_yearOf_29 q1186 (by decide) ?_
        refine V_topi h22 ?_
        refine V_icmp_ge (tgt := 97) dX5_yearOf_32 (by decide) (fun _ => ?_) (fun c32 => absurd (nI_le (by omega) (by omega)) c32)
        exact J97 now S1 _ _ h1 hR
      | succ j ih =>
        intro i now S1 x6 hj h1 h22 hR
        have hmp : 0 < mm := by omega
        have hr1 := hN_lt (lcI now)
        have hr2 := hN_lt (lcI (lcI now))
        have hr3 := Nat.mod_lt (hN (lcI (lcI now))) hmp
        refine V_iload dX5_yearOf_26 rfl ?_
        refine V_aload_n dX5_yearOf_28 rfl ?_
        refine Vm_getI 22 dX5_yearOf_29 q1186 (by decide) ?_
        refine V_topi h22 ?_
        refine V_icmp_ge (tgt := 97) dX5_yearOf_32 (by decide) (fun c32 => absurd c32 (nI_ge (by omega) (by omega))) (fun _ => ?_)
        refine V_ldcw dX5_yearOf_35 q1623 ?_
        refine V_iload dX5_yearOf_38 rfl ?_
        refine V_imul dX5_yearOf_40 ?_
        refine V_sipush dX5_yearOf_41 ls_12345 ?_
        refine V_iadd dX5_yearOf_44 ?_
        refine V_topi (show _ = lcI now from rfl) ?_
        refine V_istore dX5_yearOf_45 rfl (Nat.le_of_ble_eq_true rfl) (Nat.le_of_ble_eq_true rfl) ?_
        refine V_aload_n dX5_yearOf_47 rfl ?_
        refine Vm_getA 23 dX5_yearOf_48 q1187 (by decide) ?_
        refine V_iload dX5_yearOf_51 rfl ?_
        refine V_iload dX5_yearOf_53 rfl ?_
        refine V_bipush dX5_yearOf_55 lb_16 ?_
        refine V_iushr dX5_yearOf_57 rfl ?_
        refine V_topi (hi_eq _) ?_
        refine V_bipush dX5_yearOf_58 lb_24 ?_
        refine V_irem dX5_yearOf_60 (by decide +kernel) ?_
        refine V_topi (pk_rem (by omega) (by omega) (by omega)) ?_
        refine Vm_iast dX5_yearOf_61 (by first | rfl | assumption) (by show _ < 9; omega) (by decide) ?_
        refine V_ldcw dX5_yearOf_62 q1623 ?_
        refine V_iload dX5_yearOf_65 rfl ?_
        refine V_imul dX5_yearOf_67 ?_
        refine V_sipush dX5_yearOf_68 ls_12345 ?_
        refine V_iadd dX5_yearOf_71 ?_
        refine V_topi (show _ = lcI (lcI now) from rfl) ?_
        refine V_istore dX5_yearOf_72 rfl (Nat.le_of_ble_eq_true rfl) (Nat.le_of_ble_eq_true rfl) ?_
        refine V_aload_n dX5_yearOf_74 rfl ?_
        refine Vm_getA 24 dX5_yearOf_75 q1188 (by decide) ?_
        refine V_iload dX5_yearOf_78 rfl ?_
        refine V_iload dX5_yearOf_80 rfl ?_
        refine V_bipush dX5_yearOf_82 lb_16 ?_
        refine V_iushr dX5_yearOf_84 rfl ?_
        refine V_topi (hi_eq _) ?_
        refine V_aload_n dX5_yearOf_85 rfl ?_
        refine Vm_getI 5 dX5_yearOf_86 q1169 (by decide) ?_
        refine V_topi (show _ = nI mm from LI_g h1 hm0 (by omega)) ?_
        refine V_irem dX5_yearOf_89 (fun e => by have := nI_inj0 e (by omega); omega) ?_
        refine V_topi (pk_rem (by omega) (by omega) (by omega)) ?_
        refine Vm_iast dX5_yearOf_90 (by first | rfl | assumption) (by show _ < 9; omega) (by decide) ?_
        refine V_iinc dX5_yearOf_91 rfl (iinc_1 _) rfl (Nat.le_of_ble_eq_true rfl) ?_
        refine V_goto (tgt := 26) dX5_yearOf_94 (by decide) ?_
        exact ih (i + 1) _ _ _ (by omega) (LI_w24 ⟨_, by omega, rfl⟩ (LI_wr (by omega) h1)) ((congrFun (mwr_R _ _ _ (by decide)) 0).trans ((congrFun (mwr_R _ _ _ (by decide)) 0).trans h22)) hR
    exact L26 kn 0 seed _ _ (by omega) h0 (mwr_s _ _ _ _) (by unfold yrR; rw [hvm])
  refine V_aload_n dX5_yearOf_0 rfl ?_
  refine Vm_callVF hT dX5_yearOf_1 (lw_V q1417 q1419 qs56 q103 q1420) hv_X5_asTold (by decide) rfl (Nat.le_of_ble_eq_true rfl) ?_
  refine V_iload_n dX5_yearOf_4 rfl ?_
  refine V_istore dX5_yearOf_5 rfl (Nat.le_of_ble_eq_true rfl) (Nat.le_of_ble_eq_true rfl) ?_
  refine V_aload_n dX5_yearOf_7 rfl ?_
  refine V_aload_n dX5_yearOf_8 rfl ?_
  refine Vm_getI 5 dX5_yearOf_9 q1169 (by decide) ?_
  refine V_if_ne (tgt := 19) dX5_yearOf_12 (by decide) (fun c12 => ?_) (fun c12 => ?_)
  · refine V_iload_n dX5_yearOf_19 rfl ?_
    refine Vm_putI 22 dX5_yearOf_20 q1186 (by decide) ?_
    refine V_iconst dX5_yearOf_23 li_0 ?_
    refine V_istore dX5_yearOf_24 rfl (Nat.le_of_ble_eq_true rfl) (Nat.le_of_ble_eq_true rfl) ?_
    exact hY n hn (.inr (Nat.pos_of_ne_zero fun e => c12 (by rw [hm0, e]; rfl))) (LI_w22 ⟨n, by omega, rfl⟩ hL) (by unfold yearF; rw [if_neg c12]) _
  · refine V_iconst dX5_yearOf_15 li_0 ?_
    refine V_goto (tgt := 20) dX5_yearOf_16 (by decide) ?_
    refine Vm_putI 22 dX5_yearOf_20 q1186 (by decide) ?_
    refine V_iconst dX5_yearOf_23 li_0 ?_
    refine V_istore dX5_yearOf_24 rfl (Nat.le_of_ble_eq_true rfl) (Nat.le_of_ble_eq_true rfl) ?_
    exact hY 0 (by omega) (.inl rfl) (LI_w22 ⟨0, by omega, rfl⟩ hL) (by unfold yearF; rw [if_pos c12]) _
def yearP (seed n what : Int32) (S : xSt) : Int32 × xSt := if nI 0 ≤ n ∧ n ≤ nI 8 then (if nI 0 ≤ what ∧ what ≤ nI 1 then yearF seed (vN n) what (asToldF S) else (-2, S)) else (-2, S)
set_option maxHeartbeats 4000000 in
theorem m_year (l : Launch) (S : xSt) (seed n what : Int32) (hS : MI S) : Cm l yX5_year cX5_year 4 (some .int) 9 [.int seed, .int n, .int what] S (fun r S' => ∃ x, r = some (.int x) ∧ x = (yearP seed n what S).1 ∧ S' = (yearP seed n what S).2) := by
  refine Cm_start (ls := [some (.ref 1000), some (.int seed), some (.int n), some (.int what)]) (by decide) rfl (Nat.le_of_ble_eq_true rfl) ?_
  intro Q hQ
  refine V_iload_n dX5_year_0 rfl ?_
  refine V_iconst dX5_year_1 li_0 ?_
  refine V_bipush dX5_year_2 lb_8 ?_
  refine Vs_callIF (m_in l _ _ _) dX5_year_4 (lw_S q1308 q1309 q103 q1310) hs_X5_in (by decide) rfl (Nat.le_of_ble_eq_true rfl) ?_
  refine V_if_eqB (tgt := 29) dX5_year_7 (by decide) (fun c7 => ?_) (fun c7 => ?_)
  · refine V_bipush dX5_year_29 lb_m2 ?_
    exact V_ireturn dX5_year_31 rfl (hQ _ _ ⟨_, rfl, ⟨by unfold yearP; rw [if_neg c7], by unfold yearP; rw [if_neg c7]⟩⟩)
  · obtain ⟨n, hn, rfl⟩ := bd_I (by decide) c7
    have hvn : vN (nI n) = n := vN_nI (by omega)
    refine V_iload_n dX5_year_10 rfl ?_
    refine V_iconst dX5_year_11 li_0 ?_
    refine V_iconst dX5_year_12 li_1 ?_
    refine Vs_callIF (m_in l _ _ _) dX5_year_13 (lw_S q1308 q1309 q103 q1310) hs_X5_in (by decide) rfl (Nat.le_of_ble_eq_true rfl) ?_
    refine V_if_eqB (tgt := 29) dX5_year_16 (by decide) (fun c16 => ?_) (fun c16 => ?_)
    · refine V_bipush dX5_year_29 lb_m2 ?_
      exact V_ireturn dX5_year_31 rfl (hQ _ _ ⟨_, rfl, ⟨by unfold yearP; rw [if_pos c7, if_neg c16], by unfold yearP; rw [if_pos c7, if_neg c16]⟩⟩)
    · refine V_aload_n dX5_year_19 rfl ?_
      refine V_iload_n dX5_year_20 rfl ?_
      refine V_iload_n dX5_year_21 rfl ?_
      refine V_iload_n dX5_year_22 rfl ?_
      refine Vm_callIF (m_yearOf l _ seed n what hn hS) dX5_year_23 (lw_V q1619 q1621 qs87 q103 q1622) hv_X5_yearOf (by decide) rfl (Nat.le_of_ble_eq_true rfl) ?_
      refine V_goto (tgt := 31) dX5_year_26 (by decide) ?_
      exact V_ireturn dX5_year_31 rfl (hQ _ _ ⟨_, rfl, ⟨by unfold yearP; rw [if_pos c7, if_pos c16, hvn], by unfold yearP; rw [if_pos c7, if_pos c16, hvn]⟩⟩)
