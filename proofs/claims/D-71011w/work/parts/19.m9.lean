/-! the model: ask -/
set_option maxRecDepth 100000
def akV (S : xSt) (bits : Int32) (d a b : Nat) : Int32 := if isI bits (nI a) then (if isI bits (nI b) then (if S 38 (24 * a + d) = S 38 (24 * b + d) then nI 1 else nI 0) else nI 0) else nI 0
def akG (S : xSt) (bits : Int32) (d a b : Nat) (n : Int32) : Int32 := n + akV S bits d a b
def akC (S : xSt) (bits : Int32) (d a : Nat) : Int32 := itA (akG S bits d a) 10 0 (nI 0)
def akH (S : xSt) (bits : Int32) (d a : Nat) (m : Int32) : Int32 := if akC S bits d a ≤ m then m else akC S bits d a
def akM (S : xSt) (bits : Int32) (d : Nat) : Int32 := itA (akH S bits d) 10 0 (nI 0)
def akK (S : xSt) (bits : Int32) : Nat → Nat → Int32 → Int32 → Int32
  | 0, _, b, _ => b
  | j + 1, d, b, l => if b = -1 then akK S bits j (d + 1) (nI d) (akM S bits d) else if l ≤ akM S bits d then akK S bits j (d + 1) b l else akK S bits j (d + 1) (nI d) (akM S bits d)
theorem akK_s (S : xSt) (bits : Int32) (j d : Nat) (b l : Int32) : akK S bits (j + 1) d b l = if b = -1 then akK S bits j (d + 1) (nI d) (akM S bits d) else if l ≤ akM S bits d then akK S bits j (d + 1) b l else akK S bits j (d + 1) (nI d) (akM S bits d) := rfl
def askV (bits : Int32) (S : xSt) : Int32 := akK S bits 24 0 (-1) (nI 0)
def askF (k : Nat) (R : xSt) : Int32 × xSt := (askV (sizesF k R).1 (sizesF k R).2, (sizesF k R).2)
theorem itA_s (f : Nat → Int32 → Int32) (j i : Nat) (a : Int32) : itA f (j + 1) i a = itA f j (i + 1) (f i a) := rfl

set_option maxHeartbeats 4000000 in
theorem m_askOf (l : Launch) (S : xSt) (k : Nat) (hk : k < 8) (hS : MI S) : Cm l yX5_askOf cX5_askOf 10 (some .int) 9 [.int (nI k)] S (fun r S' => ∃ x, r = some (.int x) ∧ x = (askF k (asToldF S)).1 ∧ S' = (askF k (asToldF S)).2) := by
  refine Cm_start (ls := [some (.ref 1000), some (.int (nI k)), none, none, none, none, none, none, none, none]) (by decide) rfl (Nat.le_of_ble_eq_true rfl) ?_
  intro Q hQ
  have hZ := m_sizesBy l S k hk hS
  unfold askF at hQ
  generalize sizesF k (asToldF S) = G at hQ hZ
  obtain ⟨bits, R⟩ := G
  dsimp only at hQ hZ
  have L14 : ∀ (j d : Nat) (b l0 : Int32) (x6 x7 x8 x9 : Option Value) (hj : d + j = 24) (hR : akK R bits j d b l0 = askV bits R), V l (yX5_askOf.cls, cX5_askOf, 10, (some .int), [], yX5_askOf.name) (rmD 9 0 0, xF0, Q, xX0) 14 [some (.ref 1000), some (.int (nI k)), some (.int bits), some (.int b), some (.int l0), some (.int (nI d)), x6, x7, x8, x9] [] (mW R) 0 0 := by
    intro j
    induction j with
    | zero =>
      intro d b l0 x6 x7 x8 x9 hj hR
      refine V_iload dX5_askOf_14 rfl ?_
      refine V_bipush dX5_askOf_16 lb_24 ?_
      refine V_icmp_ge (tgt := 183) dX5_askOf_18 (by decide) (fun _ => ?_) (fun c18 => absurd (nI_le (by omega) (by omega)) c18)
      refine V_iload_n dX5_askOf_183 rfl ?_
      exact V_ireturn dX5_askOf_184 rfl (hQ _ _ ⟨_, rfl, ⟨by rw [← hR]; rfl, rfl⟩⟩)
    | succ j ih =>
      intro d b l0 x6 x7 x8 x9 hj hR
      have J132 : ∀ (x7 x8 x9 : Option Value), V l (yX5_askOf.cls, cX5_askOf, 10, (some .int), [], yX5_askOf.name) (rmD 9 0 0, xF0, Q, xX0) 132 [some (.ref 1000), some (.int (nI k)), some (.int bits), some (.int b), some (.int l0), some (.int (nI d)), some (.int (akM R bits d)), x7, x8, x9] [] (mW R) 0 0 := by
        intro x7 x8 x9
        refine V_iload_n dX5_askOf_132 rfl ?_
        refine V_iconst dX5_askOf_133 li_m1 ?_
        refine V_icmp_eq (tgt := 144) dX5_askOf_134 (by decide) (fun c134 => ?_) (fun c134 => ?_)
        · refine V_iconst dX5_askOf_144 li_1 ?_
          refine V_goto (tgt := 149) dX5_askOf_145 (by decide) ?_
          refine V_istore dX5_askOf_149 rfl (Nat.le_of_ble_eq_true rfl) (Nat.le_of_ble_eq_true rfl) ?_
          refine V_iload dX5_askOf_151 rfl ?_
          refine V_if_eq (tgt := 161) dX5_askOf_153 (by decide) (fun c153 => absurd c153 (by decide +kernel)) (fun _ => ?_)
          refine V_iload dX5_askOf_156 rfl ?_
          refine V_goto (tgt := 162) dX5_askOf_158 (by decide) ?_
          refine V_istore_n dX5_askOf_162 rfl (Nat.le_of_ble_eq_true rfl) (Nat.le_of_ble_eq_true rfl) ?_
          refine V_iload dX5_askOf_163 rfl ?_
          refine V_if_eq (tgt := 173) dX5_askOf_165 (by decide) (fun c165 => absurd c165 (by decide +kernel)) (fun _ => ?_)
          refine V_iload dX5_askOf_168 rfl ?_
          refine V_goto (tgt := 175) dX5_askOf_170 (by decide) ?_
          refine V_istore dX5_askOf_175 rfl (Nat.le_of_ble_eq_true rfl) (Nat.le_of_ble_eq_true rfl) ?_
          refine V_iinc dX5_askOf_177 rfl (iinc_1 _) rfl (Nat.le_of_ble_eq_true rfl) ?_
          refine V_goto (tgt := 14) dX5_askOf_180 (by decide) ?_
          exact ih (d + 1) _ _ _ _ _ _ (by omega) (by rw [← hR, akK_s, if_pos c134])
        · refine V_iload dX5_askOf_137 rfl ?_
          refine V_iload dX5_askOf_139 rfl ?_
          refine V_icmp_ge (tgt := 148) dX5_askOf_141 (by decide) (fun c141 => ?_) (fun c141 => ?_)
          · refine V_iconst dX5_askOf_148 li_0 ?_
            refine V_istore dX5_askOf_149 rfl (Nat.le_of_ble_eq_true rfl) (Nat.le_of_ble_eq_true rfl) ?_
            refine V_iload dX5_askOf_151 rfl ?_
            refine V_if_eq (tgt := 161) dX5_askOf_153 (by decide) (fun _ => ?_) (fun c153 => absurd rfl c153)
            refine V_iload_n dX5_askOf_161 rfl ?_
            refine V_istore_n dX5_askOf_162 rfl (Nat.le_of_ble_eq_true rfl) (Nat.le_of_ble_eq_true rfl) ?_
            refine V_iload dX5_askOf_163 rfl ?_
            refine V_if_eq (tgt := 173) dX5_askOf_165 (by decide) (fun _ => ?_) (fun c165 => absurd rfl c165)
            refine V_iload dX5_askOf_173 rfl ?_
            refine V_istore dX5_askOf_175 rfl (Nat.le_of_ble_eq_true rfl) (Nat.le_of_ble_eq_true rfl) ?_
            refine V_iinc dX5_askOf_177 rfl (iinc_1 _) rfl (Nat.le_of_ble_eq_true rfl) ?_
            refine V_goto (tgt := 14) dX5_askOf_180 (by decide) ?_
            exact ih (d + 1) _ _ _ _ _ _ (by omega) (by rw [← hR, akK_s, if_neg c134, if_pos c141])
          · refine V_iconst dX5_askOf_144 li_1 ?_
            refine V_goto (tgt := 149) dX5_askOf_145 (by decide) ?_
            refine V_istore dX5_askOf_149 rfl (Nat.le_of_ble_eq_true rfl) (Nat.le_of_ble_eq_true rfl) ?_
            refine V_iload dX5_askOf_151 rfl ?_
            refine V_if_eq (tgt := 161) dX5_askOf_153 (by decide) (fun c153 => absurd c153 (by decide +kernel)) (fun _ => ?_)
            refine V_iload dX5_askOf_156 rfl ?_
            refine V_goto (tgt := 162) dX5_askOf_158 (by decide) ?_
            refine V_istore_n dX5_askOf_162 rfl (Nat.le_of_ble_eq_true rfl) (Nat.le_of_ble_eq_true rfl) ?_
            refine V_iload dX5_askOf_163 rfl ?_
            refine V_if_eq (tgt := 173) dX5_askOf_165 (by decide) (fun c165 => absurd c165 (by decide +kernel)) (fun _ => ?_)
            refine V_iload dX5_askOf_168 rfl ?_
            refine V_goto (tgt := 175) dX5_askOf_170 (by decide) ?_
            refine V_istore dX5_askOf_175 rfl (Nat.le_of_ble_eq_true rfl) (Nat.le_of_ble_eq_true rfl) ?_
            refine V_iinc dX5_askOf_177 rfl (iinc_1 _) rfl (Nat.le_of_ble_eq_true rfl) ?_
            refine V_goto (tgt := 14) dX5_askOf_180 (by decide) ?_
            exact ih (d + 1) _ _ _ _ _ _ (by omega) (by rw [← hR, akK_s, if_neg c134, if_neg c141])
      have L27 : ∀ (i a : Nat) (m : Int32) (x8 x9 : Option Value) (hi : a + i = 10) (hR2 : itA (akH R bits d) i a m = akM R bits d), V l (yX5_askOf.cls, cX5_askOf, 10, (some .int), [], yX5_askOf.name) (rmD 9 0 0, xF0, Q, xX0) 27 [some (.ref 1000), some (.int (nI k)), some (.int bits), some (.int b), some (.int l0), some (.int (nI d)), some (.int m), some (.int (nI a)), x8, x9] [] (mW R) 0 0 := by
        intro i
        induction i with
        | zero =>
          intro a m x8 x9 hi hR2
          refine V_iload dX5_askOf_27 rfl ?_
          refine V_bipush dX5_askOf_29 lb_10 ?_
          refine V_icmp_ge (tgt := 132) dX5_askOf_31 (by decide) (fun _ => ?_) (fun c31 => absurd (nI_le (by omega) (by omega)) c31)
          have e : m = akM R bits d := hR2
          rw [e]
          exact J132 _ _ _
        | succ i ih2 =>
          intro a m x8 x9 hi hR2
          have J110 : ∀ (x9 : Option Value), V l (yX5_askOf.cls, cX5_askOf, 10, (some .int), [], yX5_askOf.name) (rmD 9 0 0, xF0, Q, xX0) 110 [some (.ref 1000), some (.int (nI k)), some (.int bits), some (.int b), some (.int l0), some (.int (nI d)), some (.int m), some (.int (nI a)), some (.int (akC R bits d a)), x9] [] (mW R) 0 0 := by
            intro x9
            refine V_iload dX5_askOf_110 rfl ?_
            refine V_iload dX5_askOf_112 rfl ?_
            refine V_icmp_le (tgt := 122) dX5_askOf_114 (by decide) (fun c114 => ?_) (fun c114 => ?_)
            · refine V_iload dX5_askOf_122 rfl ?_
              refine V_istore dX5_askOf_124 rfl (Nat.le_of_ble_eq_true rfl) (Nat.le_of_ble_eq_true rfl) ?_
              refine V_iinc dX5_askOf_126 rfl (iinc_1 _) rfl (Nat.le_of_ble_eq_true rfl) ?_
              refine V_goto (tgt := 27) dX5_askOf_129 (by decide) ?_
              exact ih2 (a + 1) _ _ _ (by omega) (by rw [← hR2, itA_s]; unfold akH; rw [if_pos c114])
            · refine V_iload dX5_askOf_117 rfl ?_
              refine V_goto (tgt := 124) dX5_askOf_119 (by decide) ?_
              refine V_istore dX5_askOf_124 rfl (Nat.le_of_ble_eq_true rfl) (Nat.le_of_ble_eq_true rfl) ?_
              refine V_iinc dX5_askOf_126 rfl (iinc_1 _) rfl (Nat.le_of_ble_eq_true rfl) ?_
              refine V_goto (tgt := 27) dX5_askOf_129 (by decide) ?_
              exact ih2 (a + 1) _ _ _ (by omega) (by rw [← hR2, itA_s]; unfold akH; rw [if_neg c114])
          have L40 : ∀ (q b2 : Nat) (n : Int32) (hq : b2 + q = 10) (hR3 : itA (akG R bits d a) q b2 n = akC R bits d a), V l (yX5_askOf.cls, cX5_askOf, 10, (some .int), [], yX5_askOf.name) (rmD 9 0 0, xF0, Q, xX0) 40 [some (.ref 1000), some (.int (nI k)), some (.int bits), some (.int b), some (.int l0), some (.int (nI d)), some (.int m), some (.int (nI a)), some (.int n), some (.int (nI b2))] [] (mW R) 0 0 := by
            intro q
            induction q with
            | zero =>
              intro b2 n hq hR3
              refine V_iload dX5_askOf_40 rfl ?_
              refine V_bipush dX5_askOf_42 lb_10 ?_
              refine V_icmp_ge (tgt := 110) dX5_askOf_44 (by decide) (fun _ => ?_) (fun c44 => absurd (nI_le (by omega) (by omega)) c44)
              have e : n = akC R bits d a := hR3
              rw [e]
              exact J110 _
            | succ q ih3 =>
              intro b2 n hq hR3
              refine V_iload dX5_askOf_40 rfl ?_
              refine V_bipush dX5_askOf_42 lb_10 ?_
              refine V_icmp_ge (tgt := 110) dX5_askOf_44 (by decide) (fun c44 => absurd c44 (nI_ge (by omega) (by omega))) (fun _ => ?_)
              refine V_iload dX5_askOf_47 rfl ?_
              refine V_iload_n dX5_askOf_49 rfl ?_
              refine V_iload dX5_askOf_50 rfl ?_
              refine Vs_callIF (m_isIn l _ _) dX5_askOf_52 (lw_S q1445 q1446 q103 q1447) hs_X5_isIn (by decide) rfl (Nat.le_of_ble_eq_true rfl) ?_
              refine V_if_eqB (tgt := 100) dX5_askOf_55 (by decide) (fun c55 => ?_) (fun c55 => ?_)
              · refine V_iconst dX5_askOf_100 li_0 ?_
                refine V_iadd dX5_askOf_101 ?_
                refine V_istore dX5_askOf_102 rfl (Nat.le_of_ble_eq_true rfl) (Nat.le_of_ble_eq_true rfl) ?_
                refine V_iinc dX5_askOf_104 rfl (iinc_1 _) rfl (Nat.le_of_ble_eq_true rfl) ?_
                refine V_goto (tgt := 40) dX5_askOf_107 (by decide) ?_
                exact ih3 (b2 + 1) _ (by omega) (by rw [← hR3, itA_s]; unfold akG akV; rw [if_neg c55])
              · refine V_iload_n dX5_askOf_58 rfl ?_
                refine V_iload dX5_askOf_59 rfl ?_
                refine Vs_callIF (m_isIn l _ _) dX5_askOf_61 (lw_S q1445 q1446 q103 q1447) hs_X5_isIn (by decide) rfl (Nat.le_of_ble_eq_true rfl) ?_
                refine V_if_eqB (tgt := 100) dX5_askOf_64 (by decide) (fun c64 => ?_) (fun c64 => ?_)
                · refine V_iconst dX5_askOf_100 li_0 ?_
                  refine V_iadd dX5_askOf_101 ?_
                  refine V_istore dX5_askOf_102 rfl (Nat.le_of_ble_eq_true rfl) (Nat.le_of_ble_eq_true rfl) ?_
                  refine V_iinc dX5_askOf_104 rfl (iinc_1 _) rfl (Nat.le_of_ble_eq_true rfl) ?_
                  refine V_goto (tgt := 40) dX5_askOf_107 (by decide) ?_
                  exact ih3 (b2 + 1) _ (by omega) (by rw [← hR3, itA_s]; unfold akG akV; rw [if_pos c55, if_neg c64])
                · refine V_aload_n dX5_askOf_67 rfl ?_
                  refine Vm_getA 38 dX5_askOf_68 q1202 (by decide) ?_
                  refine V_bipush dX5_askOf_71 lb_24 ?_
                  refine V_iload dX5_askOf_73 rfl ?_
                  refine V_imulN dX5_askOf_75 ?_
                  refine V_iload dX5_askOf_76 rfl ?_
                  refine V_iaddN dX5_askOf_78 ?_
                  refine Vm_iald dX5_askOf_79 rfl (by show _ < 240; omega) (by decide) ?_
                  refine V_aload_n dX5_askOf_80 rfl ?_
                  refine Vm_getA 38 dX5_askOf_81 q1202 (by decide) ?_
                  refine V_bipush dX5_askOf_84 lb_24 ?_
                  refine V_iload dX5_askOf_86 rfl ?_
                  refine V_imulN dX5_askOf_88 ?_
                  refine V_iload dX5_askOf_89 rfl ?_
                  refine V_iaddN dX5_askOf_91 ?_
                  refine Vm_iald dX5_askOf_92 rfl (by show _ < 240; omega) (by decide) ?_
                  refine V_icmp_ne (tgt := 100) dX5_askOf_93 (by decide) (fun c93 => ?_) (fun c93 => ?_)
                  · refine V_iconst dX5_askOf_100 li_0 ?_
                    refine V_iadd dX5_askOf_101 ?_
                    refine V_istore dX5_askOf_102 rfl (Nat.le_of_ble_eq_true rfl) (Nat.le_of_ble_eq_true rfl) ?_
                    refine V_iinc dX5_askOf_104 rfl (iinc_1 _) rfl (Nat.le_of_ble_eq_true rfl) ?_
                    refine V_goto (tgt := 40) dX5_askOf_107 (by decide) ?_
                    exact ih3 (b2 + 1) _ (by omega) (by rw [← hR3, itA_s]; unfold akG akV; rw [if_pos c55, if_pos c64, if_neg c93])
                  · refine V_iconst dX5_askOf_96 li_1 ?_
                    refine V_goto (tgt := 101) dX5_askOf_97 (by decide) ?_
                    refine V_iadd dX5_askOf_101 ?_
                    refine V_istore dX5_askOf_102 rfl (Nat.le_of_ble_eq_true rfl) (Nat.le_of_ble_eq_true rfl) ?_
                    refine V_iinc dX5_askOf_104 rfl (iinc_1 _) rfl (Nat.le_of_ble_eq_true rfl) ?_
                    refine V_goto (tgt := 40) dX5_askOf_107 (by decide) ?_
                    exact ih3 (b2 + 1) _ (by omega) (by rw [← hR3, itA_s]; unfold akG akV; rw [if_pos c55, if_pos c64, if_pos c93])
          refine V_iload dX5_askOf_27 rfl ?_
          refine V_bipush dX5_askOf_29 lb_10 ?_
          refine V_icmp_ge (tgt := 132) dX5_askOf_31 (by decide) (fun c31 => absurd c31 (nI_ge (by omega) (by omega))) (fun _ => ?_)
          refine V_iconst dX5_askOf_34 li_0 ?_
          refine V_istore dX5_askOf_35 rfl (Nat.le_of_ble_eq_true rfl) (Nat.le_of_ble_eq_true rfl) ?_
          refine V_iconst dX5_askOf_37 li_0 ?_
          refine V_istore dX5_askOf_38 rfl (Nat.le_of_ble_eq_true rfl) (Nat.le_of_ble_eq_true rfl) ?_
          exact L40 10 0 (nI 0) (by omega) rfl
      refine V_iload dX5_askOf_14 rfl ?_
      refine V_bipush dX5_askOf_16 lb_24 ?_
      refine V_icmp_ge (tgt := 183) dX5_askOf_18 (by decide) (fun c18 => absurd c18 (nI_ge (by omega) (by omega))) (fun _ => ?_)
      refine V_iconst dX5_askOf_21 li_0 ?_
      refine V_istore dX5_askOf_22 rfl (Nat.le_of_ble_eq_true rfl) (Nat.le_of_ble_eq_true rfl) ?_
      refine V_iconst dX5_askOf_24 li_0 ?_
      refine V_istore dX5_askOf_25 rfl (Nat.le_of_ble_eq_true rfl) (Nat.le_of_ble_eq_true rfl) ?_
      exact L27 10 0 (nI 0) _ _ (by omega) rfl
  refine V_aload_n dX5_askOf_0 rfl ?_
  refine V_iload_n dX5_askOf_1 rfl ?_
  refine Vm_callIF hZ dX5_askOf_2 (lw_V q1584 q1586 qs83 q103 q1587) hv_X5_sizesBy (by decide) rfl (Nat.le_of_ble_eq_true rfl) ?_
  refine V_istore_n dX5_askOf_5 rfl (Nat.le_of_ble_eq_true rfl) (Nat.le_of_ble_eq_true rfl) ?_
  refine V_iconst dX5_askOf_6 li_m1 ?_
  refine V_istore_n dX5_askOf_7 rfl (Nat.le_of_ble_eq_true rfl) (Nat.le_of_ble_eq_true rfl) ?_
  refine V_iconst dX5_askOf_8 li_0 ?_
  refine V_istore dX5_askOf_9 rfl (Nat.le_of_ble_eq_true rfl) (Nat.le_of_ble_eq_true rfl) ?_
  refine V_iconst dX5_askOf_11 li_0 ?_
  refine V_istore dX5_askOf_12 rfl (Nat.le_of_ble_eq_true rfl) (Nat.le_of_ble_eq_true rfl) ?_
  exact L14 24 0 (-1) (nI 0) _ _ _ _ (by omega) rfl
def askP (k : Int32) (S : xSt) : Int32 × xSt := if nI 0 ≤ k ∧ k ≤ readsF S 2 0 - nI 1 then askF (vN k) (asToldF (readsF S)) else (-2, readsF S)
set_option maxHeartbeats 4000000 in
theorem m_ask (l : Launch) (S : xSt) (k : Int32) (hS : MI S) : Cm l yX5_ask cX5_ask 2 (some .int) 10 [.int k] S (fun r S' => ∃ x, r = some (.int x) ∧ x = (askP k S).1 ∧ S' = (askP k S).2) := by
  refine Cm_start (ls := [some (.ref 1000), some (.int k)]) (by decide) rfl (Nat.le_of_ble_eq_true rfl) ?_
  intro Q hQ
  have hRp := (RD_p hS).1
  have hMR := MI_reads hS
  have hI := m_isPerson l S k hS.1
  refine V_aload_n dX5_ask_0 rfl ?_
  refine V_iload_n dX5_ask_1 rfl ?_
  refine Vm_callIF hI dX5_ask_2 (lw_V q1347 q1349 qs48 q103 q1350) hv_X5_isPerson (by decide) rfl (Nat.le_of_ble_eq_true rfl) ?_
  refine V_if_eqB (tgt := 16) dX5_ask_5 (by decide) (fun c5 => ?_) (fun c5 => ?_)
  · refine V_bipush dX5_ask_16 lb_m2 ?_
    exact V_ireturn dX5_ask_18 rfl (hQ _ _ ⟨_, rfl, ⟨by unfold askP; rw [if_neg c5], by unfold askP; rw [if_neg c5]⟩⟩)
  · obtain ⟨k, rfl, -, hk⟩ := bd_in (n := 8) (by decide) hRp c5
    have hvk : vN (nI k) = k := vN_nI (by omega)
    refine V_aload_n dX5_ask_8 rfl ?_
    refine V_iload_n dX5_ask_9 rfl ?_
    refine Vm_callIF (m_askOf l _ k hk hMR) dX5_ask_10 (lw_V q1596 q1598 qs85 q103 q1599) hv_X5_askOf (by decide) rfl (Nat.le_of_ble_eq_true rfl) ?_
    refine V_goto (tgt := 18) dX5_ask_13 (by decide) ?_
    exact V_ireturn dX5_ask_18 rfl (hQ _ _ ⟨_, rfl, ⟨by unfold askP; rw [if_pos c5, hvk], by unfold askP; rw [if_pos c5, hvk]⟩⟩)
