/-! the model: words, years -/
set_option maxRecDepth 100000
def wtK (c : Nat) (set : Int32) : Nat → Nat → Nat → Nat
  | 0, _, w => w
  | j + 1, i, w => wtK c set j (i + 1) (w * if isI set (nI i) then 16 - c else c)
theorem wtK_s (c : Nat) (set : Int32) (j i w : Nat) : wtK c set (j + 1) i w = wtK c set j (i + 1) (w * if isI set (nI i) then 16 - c else c) := rfl
theorem wtK_le {c : Nat} (hc : c ≤ 16) (set : Int32) : ∀ j i w, wtK c set j i w ≤ w * 16 ^ j
  | 0, _, w => by show w ≤ w * 1; omega
  | j + 1, i, w => by
    refine Nat.le_trans (wtK_le hc set j (i + 1) _) ?_
    have h1 : (if isI set (nI i) then 16 - c else c) ≤ 16 := by split <;> omega
    generalize (if isI set (nI i) then 16 - c else c) = y at h1
    rw [Nat.pow_succ, Nat.mul_comm (16 ^ j) 16, ← Nat.mul_assoc]
    exact Nat.mul_le_mul_right _ (Nat.mul_le_mul_left w h1)
abbrev wtF (c q set : Nat) : Nat := wtK c (nI set) q 0 1
def woV (c k day q s : Nat) (S : xSt) : Nat := if fitP (runsF (mwr S 25 0 (nI s))) day k then wtF c q s else 0
def woK (c k day q : Nat) : Nat → Nat → Nat → xSt → Nat × xSt
  | 0, _, a, S => (a, S)
  | j + 1, s, a, S => if wtF c q s = 0 then woK c k day q j (s + 1) a S else woK c k day q j (s + 1) (a + woV c k day q s S) (runsF (mwr S 25 0 (nI s)))
theorem woK_s (c k day q j s a : Nat) (S : xSt) : woK c k day q (j + 1) s a S = if wtF c q s = 0 then woK c k day q j (s + 1) a S else woK c k day q j (s + 1) (a + woV c k day q s S) (runsF (mwr S 25 0 (nI s))) := rfl
def woF (c k day : Nat) (R : xSt) : Nat × xSt := woK c k day (vN (R 10 0)) (2 ^ vN (R 10 0)) 0 0 R
def loV (a b : Nat) (what : Int32) : Int64 := lN ((if what = 0 then a else b) / Nat.gcd a b)
def wordF (c k day : Nat) (what : Int32) (R : xSt) : Int64 × xSt := (loV (woF c k day R).1 (2 ^ (4 * vN (R 10 0))) what, (woF c k day R).2)
theorem shq {q : Nat} (h : q ≤ 8) : nI 1 <<< (nI q &&& 31) = nI (2 ^ q) := by
  have : ∀ q, q < 9 → nI 1 <<< (nI q &&& 31) = nI (2 ^ q) := by decide +kernel
  exact this q (by omega)
theorem shl4 {q : Nat} (h : q ≤ 8) : (1 : Int64) <<< ((nI (4 * q)).toInt64 &&& 63) = lN (2 ^ (4 * q)) := by
  have : ∀ q, q < 9 → (1 : Int64) <<< ((nI (4 * q)).toInt64 &&& 63) = lN (2 ^ (4 * q)) := by decide +kernel
  exact this q (by omega)
theorem p16 {q : Nat} (h : q ≤ 8) : 16 ^ q ≤ 4294967296 ∧ 2 ^ q ≤ 256 ∧ 2 ^ (4 * q) ≤ 4294967296 ∧ 0 < 2 ^ (4 * q) := by
  have : ∀ q, q < 9 → 16 ^ q ≤ 4294967296 ∧ 2 ^ q ≤ 256 ∧ 2 ^ (4 * q) ≤ 4294967296 ∧ 0 < 2 ^ (4 * q) := by decide +kernel
  exact this q (by omega)

set_option maxHeartbeats 4000000 in
theorem m_lowest (l : Launch) (a b : Nat) (what : Int32) (ha : a < 2 ^ 63) (hb : b < 2 ^ 63) (h0 : 0 < b) : Cms l yX5_lowest cX5_lowest 11 (some .long) 0 [.long (lN a), .long (lN b), .int what] (fun r => ∃ x, r = some (.long x) ∧ x = loV a b what) := by
  refine Cms_start (ls := [some (.long (lN a)), none, some (.long (lN b)), none, some (.int what), none, none, none, none, none, none]) (by decide) rfl (Nat.le_of_ble_eq_true rfl) ?_
  intro w Q hQ
  have hg0 : 0 < Nat.gcd a b := Nat.gcd_pos_of_pos_right _ h0
  have hgl : Nat.gcd a b < 2 ^ 63 := Nat.lt_of_le_of_lt (Nat.gcd_le_right a h0) hb
  have J31 : ∀ (zz zz2 : Option Value), V l (yX5_lowest.cls, cX5_lowest, 11, (some .long), [], yX5_lowest.name) (rmD 0 0 0, xF0, Q, xX0) 31 [some (.long (lN a)), none, some (.long (lN b)), none, some (.int what), some (.long (lN (Nat.gcd a b))), none, some (.long (lN 0)), none, zz, zz2] [] w 0 0 := by
    intro zz zz2
    refine V_iload dX5_lowest_31 rfl ?_
    refine V_if_ne (tgt := 43) dX5_lowest_33 (by decide) (fun c33 => ?_) (fun c33 => ?_)
    · refine V_lload_n dX5_lowest_43 rfl ?_
      refine V_lload dX5_lowest_44 rfl ?_
      refine V_ldiv dX5_lowest_46 (fun e => absurd ((pk_lEQ (b := 0) hgl (by decide)).mp e) (by omega)) ?_
      exact V_lreturn dX5_lowest_47 rfl (hQ _ ⟨_, rfl, by unfold loV; rw [if_neg c33, pk_lDiv hb hg0 hgl]⟩)
    · refine V_lload_n dX5_lowest_36 rfl ?_
      refine V_lload dX5_lowest_37 rfl ?_
      refine V_ldiv dX5_lowest_39 (fun e => absurd ((pk_lEQ (b := 0) hgl (by decide)).mp e) (by omega)) ?_
      refine V_goto (tgt := 47) dX5_lowest_40 (by decide) ?_
      exact V_lreturn dX5_lowest_47 rfl (hQ _ ⟨_, rfl, by unfold loV; rw [if_pos c33, pk_lDiv ha hg0 hgl]⟩)
  have L6 : ∀ (j x y : Nat) (zz zz2 : Option Value) (hj : y ≤ j) (hx : x < 2 ^ 63) (hy : y < 2 ^ 63) (hG : Nat.gcd x y = Nat.gcd a b), V l (yX5_lowest.cls, cX5_lowest, 11, (some .long), [], yX5_lowest.name) (rmD 0 0 0, xF0, Q, xX0) 6 [some (.long (lN a)), none, some (.long (lN b)), none, some (.int what), some (.long (lN x)), none, some (.long (lN y)), none, zz, zz2] [] w 0 0 := by
    intro j
    induction j with
    | zero =>
      intro x y zz zz2 hj hx hy hG
      refine V_lload dX5_lowest_6 rfl ?_
      refine V_lconst (v := 0) dX5_lowest_8 (by rfl) ?_
      refine V_lcmp dX5_lowest_9 ?_
      refine V_if_eq (tgt := 31) dX5_lowest_10 (by decide) (fun c10 => ?_) (fun c10 => ?_)
      · have e : y = 0 := (pk_lEQ (b := 0) hy (by decide)).mp ((lg_cmp_eq _ _).mp c10)
        subst e
        rw [Nat.gcd_zero_right] at hG
        rw [hG]
        exact J31 _ _
      · exact absurd ((lg_cmp_eq _ _).mpr (by rw [show y = 0 by omega]; rfl)) c10
    | succ j ih =>
      intro x y zz zz2 hj hx hy hG
      refine V_lload dX5_lowest_6 rfl ?_
      refine V_lconst (v := 0) dX5_lowest_8 (by rfl) ?_
      refine V_lcmp dX5_lowest_9 ?_
      refine V_if_eq (tgt := 31) dX5_lowest_10 (by decide) (fun c10 => ?_) (fun c10 => ?_)
      · have e : y = 0 := (pk_lEQ (b := 0) hy (by decide)).mp ((lg_cmp_eq _ _).mp c10)
        subst e
        rw [Nat.gcd_zero_right] at hG
        rw [hG]
        exact J31 _ _
      · have hy0 : 0 < y := Nat.pos_of_ne_zero (fun e => c10 ((lg_cmp_eq _ _).mpr (by rw [e]; rfl)))
        refine V_lload dX5_lowest_13 rfl ?_
        refine V_lload dX5_lowest_15 rfl ?_
        refine V_lrem dX5_lowest_17 (fun e => c10 ((lg_cmp_eq _ _).mpr e)) ?_
        rw [pk_lRem hx hy0 hy]
        refine V_lstore dX5_lowest_18 rfl (Nat.le_of_ble_eq_true rfl) (Nat.le_of_ble_eq_true rfl) ?_
        refine V_lload dX5_lowest_20 rfl ?_
        refine V_lstore dX5_lowest_22 rfl (Nat.le_of_ble_eq_true rfl) (Nat.le_of_ble_eq_true rfl) ?_
        refine V_lload dX5_lowest_24 rfl ?_
        refine V_lstore dX5_lowest_26 rfl (Nat.le_of_ble_eq_true rfl) (Nat.le_of_ble_eq_true rfl) ?_
        refine V_goto (tgt := 6) dX5_lowest_28 (by decide) ?_
        exact ih y (x % y) _ _ (by have := Nat.mod_lt x hy0; omega) hy (by have := Nat.mod_lt x hy0; omega) (by rw [Nat.gcd_comm, ← hG, Nat.gcd_comm x y, Nat.gcd_rec y x])
  refine V_lload_n dX5_lowest_0 rfl ?_
  refine V_lstore dX5_lowest_1 rfl (Nat.le_of_ble_eq_true rfl) (Nat.le_of_ble_eq_true rfl) ?_
  refine V_lload_n dX5_lowest_3 rfl ?_
  refine V_lstore dX5_lowest_4 rfl (Nat.le_of_ble_eq_true rfl) (Nat.le_of_ble_eq_true rfl) ?_
  exact L6 b a b _ _ (Nat.le_refl _) ha hb rfl
set_option maxHeartbeats 4000000 in
theorem m_wordOf (l : Launch) (S : xSt) (c k day : Nat) (what : Int32) (hc : c ≤ 16) (hk : k < 8) (hd : day < 24) (hS : MI S) : Cm l yX5_wordOf cX5_wordOf 11 (some .long) 8 [.int (nI c), .int (nI k), .int (nI day), .int what] S (fun r S' => ∃ x, r = some (.long x) ∧ x = (wordF c k day what (asToldF S)).1 ∧ S' = (wordF c k day what (asToldF S)).2) := by
  refine Cm_start (ls := [some (.ref 1000), some (.int (nI c)), some (.int (nI k)), some (.int (nI day)), some (.int what), none, none, none, none, none, none]) (by decide) rfl (Nat.le_of_ble_eq_true rfl) ?_
  intro Q hQ
  have hT := m_asTold l S hS
  have hL := LI_0 hS
  obtain ⟨pp, hpp, hp0⟩ := hL.1.1
  obtain ⟨mm, hmm, hm0⟩ := hL.1.2.1
  obtain ⟨qq, hqq, hq0⟩ : bd (asToldF S 10 0) 8 := (MI_asTold hS).2.2.1
  have hvp : vN (asToldF S 2 0) = pp := by rw [hp0]; exact vN_nI (by omega)
  have hvm : vN (asToldF S 5 0) = mm := by rw [hm0]; exact vN_nI (by omega)
  have hvq : vN (asToldF S 10 0) = qq := by rw [hq0]; exact vN_nI (by omega)
  generalize asToldF S = R at hQ hT hL hp0 hm0 hq0 hvp hvm hvq 
  obtain ⟨h16, h2q, h4q, h4p⟩ := p16 hqq
  have hq31 : 2 ^ qq < 2 ^ 31 := by omega
  have h63 : 2 ^ (4 * qq) < 2 ^ 63 := by omega
  have L10 : ∀ (j s sm : Nat) (S1 : xSt) (x8 x9 x10 : Option Value) (hj : s + j = 2 ^ qq) (hb : sm / 4294967296 ≤ s) (h1 : LI R S1) (hR : woK c k day qq j s sm S1 = woF c k day R), V l (yX5_wordOf.cls, cX5_wordOf, 11, (some .long), [], yX5_wordOf.name) (rmD 8 0 0, xF0, Q, xX0) 10 [some (.ref 1000), some (.int (nI c)), some (.int (nI k)), some (.int (nI day)), some (.int what), some (.long (lN sm)), none, some (.int (nI s)), x8, x9, x10] [] (mW S1) 0 0 := by
    intro j
    induction j with
    | zero =>
      intro s sm S1 x8 x9 x10 hj hb h1 hR
      refine V_iload dX5_wordOf_10 rfl ?_
      refine V_iconst dX5_wordOf_12 li_1 ?_
      refine V_aload_n dX5_wordOf_13 rfl ?_
      refine Vm_getI 10 dX5_wordOf_14 q1174 (by decide) ?_
      refine V_topi (LI_g h1 hq0 (by omega)) ?_
      refine V_ishl dX5_wordOf_17 ?_
      refine V_topi (shq hqq) ?_
      refine V_icmp_ge (tgt := 110) dX5_wordOf_18 (by decide) (fun _ => ?_) (fun c18 => absurd (nI_le (by omega) (by omega)) c18)
      refine V_lload dX5_wordOf_110 rfl ?_
      refine V_lconst (v := 1) dX5_wordOf_112 (by rfl) ?_
      refine V_iconst dX5_wordOf_113 li_4 ?_
      refine V_aload_n dX5_wordOf_114 rfl ?_
      refine Vm_getI 10 dX5_wordOf_115 q1174 (by decide) ?_
      refine V_topi (LI_g h1 hq0 (by omega)) ?_
      refine V_imulN dX5_wordOf_118 ?_
      refine V_lshl dX5_wordOf_119 rfl ?_
      refine V_topl (shl4 hqq) ?_
      refine V_iload dX5_wordOf_120 rfl ?_
      refine Vs_callLF (m_lowest l sm (2 ^ (4 * qq)) what (by omega) h63 h4p) dX5_wordOf_122 (lw_S q1608 q1609 q103 q1610) hs_X5_lowest (by decide) rfl (Nat.le_of_ble_eq_true rfl) ?_
      exact V_lreturn dX5_wordOf_125 rfl (hQ _ _ ⟨_, rfl, ⟨by unfold wordF; rw [← hR, hvq]; rfl, by unfold wordF; rw [← hR]; rfl⟩⟩)
    | succ j ih =>
      intro s sm S1 x8 x9 x10 hj hb h1 hR
      have hw : wtF c qq s ≤ 1 * 16 ^ qq := wtK_le hc _ _ _ _
      have hw3 : wtF c qq s < 2 ^ 63 := by omega
      have hv : woV c k day qq s S1 ≤ wtF c qq s := by unfold woV; split <;> omega
      have J67 : ∀ (x10 : Option Value), V l (yX5_wordOf.cls, cX5_wordOf, 11, (some .long), [], yX5_wordOf.name) (rmD 8 0 0, xF0, Q, xX0) 67 [some (.ref 1000), some (.int (nI c)), some (.int (nI k)), some (.int (nI day)), some (.int what), some (.long (lN sm)), none, some (.int (nI s)), some (.long (lN (wtF c qq s))), none, x10] [] (mW S1) 0 0 := by
        intro x10
        refine V_lload dX5_wordOf_67 rfl ?_
        refine V_lconst (v := 0) dX5_wordOf_69 (by rfl) ?_
        refine V_lcmp dX5_wordOf_70 ?_
        refine V_if_le (tgt := 104) dX5_wordOf_71 (by decide) (fun c71 => ?_) (fun c71 => ?_)
        · have e : wtF c qq s = 0 := by have := (pk_lLE (b := 0) hw3 (by decide)).mp ((lg_cmp_le _ _).mp c71); omega
          refine V_iinc dX5_wordOf_104 rfl (iinc_1 _) rfl (Nat.le_of_ble_eq_true rfl) ?_
          refine V_goto (tgt := 10) dX5_wordOf_107 (by decide) ?_
          exact ih (s + 1) sm S1 _ _ _ (by omega) (by omega) h1 (by rw [← hR, woK_s, if_pos e])
        · have e : ¬ wtF c qq s = 0 := fun q => c71 ((lg_cmp_le _ _).mpr ((pk_lLE (b := 0) hw3 (by decide)).mpr (by omega)))
          refine V_aload_n dX5_wordOf_74 rfl ?_
          refine V_iload dX5_wordOf_75 rfl ?_
          refine Vm_putI 25 dX5_wordOf_77 q1189 (by decide) ?_
          refine V_aload_n dX5_wordOf_80 rfl ?_
          refine Vm_callVF (m_runs l _ (LI_wr (by omega) h1).1) dX5_wordOf_81 (lw_V q1421 q1423 qs57 q103 q1424) hv_X5_runs (by decide) rfl (Nat.le_of_ble_eq_true rfl) ?_
          refine V_lload dX5_wordOf_84 rfl ?_
          refine V_aload_n dX5_wordOf_86 rfl ?_
          refine V_iload_n dX5_wordOf_87 rfl ?_
          refine V_iload_n dX5_wordOf_88 rfl ?_
          refine Vm_callIF (m_fitsOn l _ _ _ (by omega) (by omega)) dX5_wordOf_89 (lw_V q1456 q1458 qs65 q103 q1459) hv_X5_fitsOn (by decide) rfl (Nat.le_of_ble_eq_true rfl) ?_
          refine V_if_eqB (tgt := 100) dX5_wordOf_92 (by decide) (fun c92 => ?_) (fun c92 => ?_)
          · refine V_lconst (v := 0) dX5_wordOf_100 (by rfl) ?_
            refine V_topl (y := lN (woV c k day qq s S1)) (by unfold woV; rw [if_neg c92]; rfl) ?_
            refine V_ladd dX5_wordOf_101 ?_
            rw [lN_add]
            refine V_lstore dX5_wordOf_102 rfl (Nat.le_of_ble_eq_true rfl) (Nat.le_of_ble_eq_true rfl) ?_
            refine V_iinc dX5_wordOf_104 rfl (iinc_1 _) rfl (Nat.le_of_ble_eq_true rfl) ?_
            refine V_goto (tgt := 10) dX5_wordOf_107 (by decide) ?_
            exact ih (s + 1) (sm + woV c k day qq s S1) _ _ _ _ (by omega) (by omega) (LI_run (LI_wr (by omega) h1)) (by rw [← hR, woK_s, if_neg e])
          · refine V_lload dX5_wordOf_95 rfl ?_
            refine V_goto (tgt := 101) dX5_wordOf_97 (by decide) ?_
            refine V_topl (y := lN (woV c k day qq s S1)) (by unfold woV; rw [if_pos c92]) ?_
            refine V_ladd dX5_wordOf_101 ?_
            rw [lN_add]
            refine V_lstore dX5_wordOf_102 rfl (Nat.le_of_ble_eq_true rfl) (Nat.le_of_ble_eq_true rfl) ?_
            refine V_iinc dX5_wordOf_104 rfl (iinc_1 _) rfl (Nat.le_of_ble_eq_true rfl) ?_
            refine V_goto (tgt := 10) dX5_wordOf_107 (by decide) ?_
            exact ih (s + 1) (sm + woV c k day qq s S1) _ _ _ _ (by omega) (by omega) (LI_run (LI_wr (by omega) h1)) (by rw [← hR, woK_s, if_neg e])
      have L27 : ∀ (i f w : Nat) (hi : f + i = qq) (hR2 : wtK c (nI s) i f w = wtF c qq s), V l (yX5_wordOf.cls, cX5_wordOf, 11, (some .long), [], yX5_wordOf.name) (rmD 8 0 0, xF0, Q, xX0) 27 [some (.ref 1000), some (.int (nI c)), some (.int (nI k)), some (.int (nI day)), some (.int what), some (.long (lN sm)), none, some (.int (nI s)), some (.long (lN w)), none, some (.int (nI f))] [] (mW S1) 0 0 := by
        intro i
        induction i with
        | zero =>
          intro f w hi hR2
          refine V_iload dX5_wordOf_27 rfl ?_
          refine V_aload_n dX5_wordOf_29 rfl ?_
          refine Vm_getI 10 dX5_wordOf_30 q1174 (by decide) ?_
          refine V_topi (LI_g h1 hq0 (by omega)) ?_
          refine V_icmp_ge (tgt := 67) dX5_wordOf_33 (by decide) (fun _ => ?_) (fun c33 => absurd (nI_le (by omega) (by omega)) c33)
          have e : w = wtF c qq s := hR2
          rw [e]
          exact J67 _
        | succ i ih2 =>
          intro f w hi hR2
          refine V_iload dX5_wordOf_27 rfl ?_
          refine V_aload_n dX5_wordOf_29 rfl ?_
          refine Vm_getI 10 dX5_wordOf_30 q1174 (by decide) ?_
          refine V_topi (LI_g h1 hq0 (by omega)) ?_
          refine V_icmp_ge (tgt := 67) dX5_wordOf_33 (by decide) (fun c33 => absurd c33 (nI_ge (by omega) (by omega))) (fun _ => ?_)
          refine V_lload dX5_wordOf_36 rfl ?_
          refine V_iload dX5_wordOf_38 rfl ?_
          refine V_iload dX5_wordOf_40 rfl ?_
          refine Vs_callIF (m_isIn l _ _) dX5_wordOf_42 (lw_S q1445 q1446 q103 q1447) hs_X5_isIn (by decide) rfl (Nat.le_of_ble_eq_true rfl) ?_
          refine V_if_eqB (tgt := 56) dX5_wordOf_45 (by decide) (fun c45 => ?_) (fun c45 => ?_)
          · refine V_iload_n dX5_wordOf_56 rfl ?_
            refine V_i2l dX5_wordOf_57 rfl ?_
            refine V_topl (nI_l (by omega)) ?_
            refine V_lmul dX5_wordOf_58 ?_
            rw [lN_mul]
            refine V_lstore dX5_wordOf_59 rfl (Nat.le_of_ble_eq_true rfl) (Nat.le_of_ble_eq_true rfl) ?_
            refine V_iinc dX5_wordOf_61 rfl (iinc_1 _) rfl (Nat.le_of_ble_eq_true rfl) ?_
            refine V_goto (tgt := 27) dX5_wordOf_64 (by decide) ?_
            exact ih2 (f + 1) _ (by omega) (by rw [← hR2, wtK_s, if_neg c45])
          · refine V_bipush dX5_wordOf_48 lb_16 ?_
            refine V_iload_n dX5_wordOf_50 rfl ?_
            refine V_isubN dX5_wordOf_51 (by omega) ?_
            refine V_i2l dX5_wordOf_52 rfl ?_
            refine V_topl (nI_l (by omega)) ?_
            refine V_goto (tgt := 58) dX5_wordOf_53 (by decide) ?_
            refine V_lmul dX5_wordOf_58 ?_
            rw [lN_mul]
            refine V_lstore dX5_wordOf_59 rfl (Nat.le_of_ble_eq_true rfl) (Nat.le_of_ble_eq_true rfl) ?_
            refine V_iinc dX5_wordOf_61 rfl (iinc_1 _) rfl (Nat.le_of_ble_eq_true rfl) ?_
            refine V_goto (tgt := 27) dX5_wordOf_64 (by decide) ?_
            exact ih2 (f + 1) _ (by omega) (by rw [← hR2, wtK_s, if_pos c45])
      refine V_iload dX5_wordOf_10 rfl ?_
      refine V_iconst dX5_wordOf_12 li_1 ?_
      refine V_aload_n dX5_wordOf_13 rfl ?_
      refine Vm_getI 10 dX5_wordOf_14 q1174 (by decide) ?_
      refine V_topi (LI_g h1 hq0 (by omega)) ?_
      refine V_ishl dX5_wordOf_17 ?_
      refine V_topi (shq hqq) ?_
      refine V_icmp_ge (tgt := 110) dX5_wordOf_18 (by decide) (fun c18 => absurd c18 (nI_ge (by omega) (by omega))) (fun _ => ?_)
      refine V_lconst (v := 1) dX5_wordOf_21 (by rfl) ?_
      refine V_topl (show (1 : Int64) = lN 1 from rfl) ?_
      refine V_lstore dX5_wordOf_22 rfl (Nat.le_of_ble_eq_true rfl) (Nat.le_of_ble_eq_true rfl) ?_
      refine V_iconst dX5_wordOf_24 li_0 ?_
      refine V_istore dX5_wordOf_25 rfl (Nat.le_of_ble_eq_true rfl) (Nat.le_of_ble_eq_true rfl) ?_
      exact L27 qq 0 1 (by omega) rfl
  refine V_aload_n dX5_wordOf_0 rfl ?_
  refine Vm_callVF hT dX5_wordOf_1 (lw_V q1417 q1419 qs56 q103 q1420) hv_X5_asTold (by decide) rfl (Nat.le_of_ble_eq_true rfl) ?_
  refine V_lconst (v := 0) dX5_wordOf_4 (by rfl) ?_
  refine V_topl (show (0 : Int64) = lN 0 from rfl) ?_
  refine V_lstore dX5_wordOf_5 rfl (Nat.le_of_ble_eq_true rfl) (Nat.le_of_ble_eq_true rfl) ?_
  refine V_iconst dX5_wordOf_7 li_0 ?_
  refine V_istore dX5_wordOf_8 rfl (Nat.le_of_ble_eq_true rfl) (Nat.le_of_ble_eq_true rfl) ?_
  exact L10 (2 ^ qq) 0 0 _ _ _ _ (by omega) (by omega) hL (by unfold woF; rw [hvq])
def noF (w : Int32) : Int64 := -9223372036854775808 - w.toInt64
def wordP (c k day what : Int32) (S : xSt) : Int64 × xSt := if nI 0 ≤ c ∧ c ≤ nI 16 then (if nI 0 ≤ k ∧ k ≤ readsF S 2 0 - nI 1 then (if nI 0 ≤ day ∧ day ≤ nI 23 then (if nI 0 ≤ what ∧ what ≤ nI 1 then wordF (vN c) (vN k) (vN day) what (asToldF (readsF S)) else (noF (-2), readsF S)) else (noF (-2), readsF S)) else (noF (-2), readsF S)) else (noF (-2), S)
set_option maxHeartbeats 4000000 in
theorem m_word (l : Launch) (S : xSt) (c k day what : Int32) (hS : MI S) : Cm l yX5_word cX5_word 5 (some .long) 9 [.int c, .int k, .int day, .int what] S (fun r S' => ∃ x, r = some (.long x) ∧ x = (wordP c k day what S).1 ∧ S' = (wordP c k day what S).2) := by
  refine Cm_start (ls := [some (.ref 1000), some (.int c), some (.int k), some (.int day), some (.int what)]) (by decide) rfl (Nat.le_of_ble_eq_true rfl) ?_
  intro Q hQ
  have hRp := (RD_p hS).1
  have hMR := MI_reads hS
  have hI := m_isPerson l S k hS.1
  refine V_iload_n dX5_word_0 rfl ?_
  refine V_iconst dX5_word_1 li_0 ?_
  refine V_bipush dX5_word_2 lb_16 ?_
  refine Vs_callIF (m_in l _ _ _) dX5_word_4 (lw_S q1308 q1309 q103 q1310) hs_X5_in (by decide) rfl (Nat.le_of_ble_eq_true rfl) ?_
  refine V_if_eqB (tgt := 47) dX5_word_7 (by decide) (fun c7 => ?_) (fun c7 => ?_)
  · refine V_bipush dX5_word_47 lb_m2 ?_
    refine Vs_callLF (m_no l _) dX5_word_49 (lw_S q1611 q1612 q103 q1613) hs_X5_no (by decide) rfl (Nat.le_of_ble_eq_true rfl) ?_
    exact V_lreturn dX5_word_52 rfl (hQ _ _ ⟨_, rfl, ⟨by unfold wordP noF; rw [if_neg c7], by unfold wordP noF; rw [if_neg c7]⟩⟩)
  · obtain ⟨c, hc, rfl⟩ := bd_I (by decide) c7
    have hvc : vN (nI c) = c := vN_nI (by omega)
    refine V_aload_n dX5_word_10 rfl ?_
    refine V_iload_n dX5_word_11 rfl ?_
    refine Vm_callIF hI dX5_word_12 (lw_V q1347 q1349 qs48 q103 q1350) hv_X5_isPerson (by decide) rfl (Nat.le_of_ble_eq_true rfl) ?_
    refine V_if_eqB (tgt := 47) dX5_word_15 (by decide) (fun c15 => ?_) (fun c15 => ?_)
    · refine V_bipush dX5_word_47 lb_m2 ?_
      refine Vs_callLF (m_no l _) dX5_word_49 (lw_S q1611 q1612 q103 q1613) hs_X5_no (by decide) rfl (Nat.le_of_ble_eq_true rfl) ?_
      exact V_lreturn dX5_word_52 rfl (hQ _ _ ⟨_, rfl, ⟨by unfold wordP noF; rw [if_pos c7, if_neg c15], by unfold wordP noF; rw [if_pos c7, if_neg c15]⟩⟩)
    · obtain ⟨k, rfl, -, hk⟩ := bd_in (n := 8) (by decide) hRp c15
      have hvk : vN (nI k) = k := vN_nI (by omega)
      refine V_iload_n dX5_word_18 rfl ?_
      refine Vs_callIF (m_isDay l _) dX5_word_19 (lw_S q1375 q1376 q103 q1377) hs_X5_isDay (by decide) rfl (Nat.le_of_ble_eq_true rfl) ?_
      refine V_if_eqB (tgt := 47) dX5_word_22 (by decide) (fun c22 => ?_) (fun c22 => ?_)
      · refine V_bipush dX5_word_47 lb_m2 ?_
        refine Vs_callLF (m_no l _) dX5_word_49 (lw_S q1611 q1612 q103 q1613) hs_X5_no (by decide) rfl (Nat.le_of_ble_eq_true rfl) ?_
        exact V_lreturn dX5_word_52 rfl (hQ _ _ ⟨_, rfl, ⟨by unfold wordP noF; rw [if_pos c7, if_pos c15, if_neg c22], by unfold wordP noF; rw [if_pos c7, if_pos c15, if_neg c22]⟩⟩)
      · obtain ⟨day, hday, rfl⟩ := bd_I (by decide) c22
        have hvday : vN (nI day) = day := vN_nI (by omega)
        refine V_iload dX5_word_25 rfl ?_
        refine V_iconst dX5_word_27 li_0 ?_
        refine V_iconst dX5_word_28 li_1 ?_
        refine Vs_callIF (m_in l _ _ _) dX5_word_29 (lw_S q1308 q1309 q103 q1310) hs_X5_in (by decide) rfl (Nat.le_of_ble_eq_true rfl) ?_
        refine V_if_eqB (tgt := 47) dX5_word_32 (by decide) (fun c32 => ?_) (fun c32 => ?_)
        · refine V_bipush dX5_word_47 lb_m2 ?_
          refine Vs_callLF (m_no l _) dX5_word_49 (lw_S q1611 q1612 q103 q1613) hs_X5_no (by decide) rfl (Nat.le_of_ble_eq_true rfl) ?_
          exact V_lreturn dX5_word_52 rfl (hQ _ _ ⟨_, rfl, ⟨by unfold wordP noF; rw [if_pos c7, if_pos c15, if_pos c22, if_neg c32], by unfold wordP noF; rw [if_pos c7, if_pos c15, if_pos c22, if_neg c32]⟩⟩)
        · refine V_aload_n dX5_word_35 rfl ?_
          refine V_iload_n dX5_word_36 rfl ?_
          refine V_iload_n dX5_word_37 rfl ?_
          refine V_iload_n dX5_word_38 rfl ?_
          refine V_iload dX5_word_39 rfl ?_
          refine Vm_callLF (m_wordOf l _ c k day what hc hk (by omega) hMR) dX5_word_41 (lw_V q1604 q1606 qs86 q103 q1607) hv_X5_wordOf (by decide) rfl (Nat.le_of_ble_eq_true rfl) ?_
          refine V_goto (tgt := 52) dX5_word_44 (by decide) ?_
          exact V_lreturn dX5_word_52 rfl (hQ _ _ ⟨_, rfl, ⟨by unfold wordP noF; rw [if_pos c7, if_pos c15, if_pos c22, if_pos c32, hvc, hvk, hvday], by unfold wordP noF; rw [if_pos c7, if_pos c15, if_pos c22, if_pos c32, hvc, hvk, hvday]⟩⟩)
