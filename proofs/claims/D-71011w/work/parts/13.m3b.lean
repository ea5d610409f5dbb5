set_option maxRecDepth 100000
set_option maxHeartbeats 4000000 in
theorem m_goesBy (l : Launch) (S : xSt) (d : Nat) (hd : d < 24) (hP : PV S) : Cm l yX5_goesBy cX5_goesBy 3 none 4 [.int (nI d)] S (fun r S' => r = none ∧ S' = goesF d S) := by
  refine Cm_start (ls := [some (.ref 1000), some (.int (nI d)), none]) (by decide) rfl (Nat.le_of_ble_eq_true rfl) ?_
  intro Q hQ
  have L1890 : ∀ (S0 : xSt), PV S0 → ressF d S0 = goesF d S → V l (yX5_goesBy.cls, cX5_goesBy, 3, none, [], yX5_goesBy.name) (rmD 4 0 0, xF0, Q, xX0) 189 [some (.ref 1000), some (.int (nI d)), some (.int (nI 0))] [] (mW S0) 0 0 := by
    intro S0 hP0 hG
    obtain ⟨nn, hnn, hn0⟩ := hP0.2.2.1
    have L189 : ∀ (j : Nat) (i : Nat) (S1 : xSt) (hj : i + j = nn) (h1 : PV S1) (hn1 : S1 21 0 = nI nn) (hR : itF (rsF d) j i S1 = itF (rsF d) (vN (S0 21 0)) 0 S0), V l (yX5_goesBy.cls, cX5_goesBy, 3, none, [], yX5_goesBy.name) (rmD 4 0 0, xF0, Q, xX0) 189 [some (.ref 1000), some (.int (nI d)), some (.int (nI i))] [] (mW S1) 0 0 := by
      intro j
      induction j with
      | zero =>
        intro i S1 hj h1 hn1 hR
        refine V_iload_n dX5_goesBy_189 rfl ?_
        refine V_aload_n dX5_goesBy_190 rfl ?_
        refine Vm_getI 21 dX5_goesBy_191 q1185 (by decide) ?_
        refine V_topi hn1 ?_
        refine V_icmp_ge (tgt := 220) dX5_goesBy_194 (by decide) (fun _ => ?_) (fun c194 => absurd (nI_le (by omega) (by omega)) c194)
        exact V_vreturn dX5_goesBy_220 rfl (hQ _ _ ⟨rfl, by rw [← hG]; unfold ressF; rw [← hR]; rfl⟩)
      | succ j ih =>
        intro i S1 hj h1 hn1 hR
        refine V_iload_n dX5_goesBy_189 rfl ?_
        refine V_aload_n dX5_goesBy_190 rfl ?_
        refine Vm_getI 21 dX5_goesBy_191 q1185 (by decide) ?_
        refine V_topi hn1 ?_
        refine V_icmp_ge (tgt := 220) dX5_goesBy_194 (by decide) (fun c194 => absurd c194 (nI_ge (by omega) (by omega))) (fun _ => ?_)
        refine V_aload_n dX5_goesBy_197 rfl ?_
        refine Vm_getA 32 dX5_goesBy_198 q1196 (by decide) ?_
        refine V_bipush dX5_goesBy_201 lb_12 ?_
        refine V_iload_n dX5_goesBy_203 rfl ?_
        refine V_imulN dX5_goesBy_204 ?_
        refine V_iload_n dX5_goesBy_205 rfl ?_
        refine V_iaddN dX5_goesBy_206 ?_
        refine V_aload_n dX5_goesBy_207 rfl ?_
        refine Vm_getA 29 dX5_goesBy_208 q1193 (by decide) ?_
        refine V_iload_n dX5_goesBy_211 rfl ?_
        refine Vm_iald dX5_goesBy_212 (by first | rfl | assumption) (by show _ < 12; omega) (by decide) ?_
        refine Vm_iast dX5_goesBy_213 rfl (by show _ < 288; omega) (by decide) ?_
        refine V_iinc dX5_goesBy_214 rfl (iinc_1 _) rfl (Nat.le_of_ble_eq_true rfl) ?_
        refine V_goto (tgt := 189) dX5_goesBy_217 (by decide) ?_
        have hf := rsF_fr d i S1
        exact V_mW (S2 := (rsF d) i S1) (by unfold rsF; rfl) (ih (i + 1) ((rsF d) i S1) (by omega) (PV_fr hf h1) (by rw [hf 21 (by omega)]; exact hn1) hR)
    exact L189 nn 0 S0 (by omega) hP0 hn0 (by rw [hn0, vN_nI (by omega)])
  have L1390 : ∀ (S0 : xSt), PV S0 → ressF d (recsF d S0) = goesF d S → V l (yX5_goesBy.cls, cX5_goesBy, 3, none, [], yX5_goesBy.name) (rmD 4 0 0, xF0, Q, xX0) 139 [some (.ref 1000), some (.int (nI d)), some (.int (nI 0))] [] (mW S0) 0 0 := by
    intro S0 hP0 hG
    obtain ⟨nn, hnn, hn0⟩ := hP0.1
    have L139 : ∀ (j : Nat) (i : Nat) (S1 : xSt) (hj : i + j = nn) (h1 : PV S1) (hn1 : S1 2 0 = nI nn) (hR : itF (rcF d) j i S1 = itF (rcF d) (vN (S0 2 0)) 0 S0), V l (yX5_goesBy.cls, cX5_goesBy, 3, none, [], yX5_goesBy.name) (rmD 4 0 0, xF0, Q, xX0) 139 [some (.ref 1000), some (.int (nI d)), some (.int (nI i))] [] (mW S1) 0 0 := by
      intro j
      induction j with
      | zero =>
        intro i S1 hj h1 hn1 hR
        refine V_iload_n dX5_goesBy_139 rfl ?_
        refine V_aload_n dX5_goesBy_140 rfl ?_
        refine Vm_getI 2 dX5_goesBy_141 q1166 (by decide) ?_
        refine V_topi hn1 ?_
        refine V_icmp_ge (tgt := 187) dX5_goesBy_144 (by decide) (fun _ => ?_) (fun c144 => absurd (nI_le (by omega) (by omega)) c144)
        refine V_iconst dX5_goesBy_187 li_0 ?_
        refine V_istore_n dX5_goesBy_188 rfl (Nat.le_of_ble_eq_true rfl) (Nat.le_of_ble_eq_true rfl) ?_
        exact L1890 S1 h1 (by rw [← hG]; unfold recsF; rw [← hR]; rfl)
      | succ j ih =>
        intro i S1 hj h1 hn1 hR
        refine V_iload_n dX5_goesBy_139 rfl ?_
        refine V_aload_n dX5_goesBy_140 rfl ?_
        refine Vm_getI 2 dX5_goesBy_141 q1166 (by decide) ?_
        refine V_topi hn1 ?_
        refine V_icmp_ge (tgt := 187) dX5_goesBy_144 (by decide) (fun c144 => absurd c144 (nI_ge (by omega) (by omega))) (fun _ => ?_)
        refine V_aload_n dX5_goesBy_147 rfl ?_
        refine Vm_getA 30 dX5_goesBy_148 q1194 (by decide) ?_
        refine V_bipush dX5_goesBy_151 lb_8 ?_
        refine V_iload_n dX5_goesBy_153 rfl ?_
        refine V_imulN dX5_goesBy_154 ?_
        refine V_iload_n dX5_goesBy_155 rfl ?_
        refine V_iaddN dX5_goesBy_156 ?_
        refine V_aload_n dX5_goesBy_157 rfl ?_
        refine Vm_getA 27 dX5_goesBy_158 q1191 (by decide) ?_
        refine V_iload_n dX5_goesBy_161 rfl ?_
        refine Vm_iald dX5_goesBy_162 (by first | rfl | assumption) (by show _ < 8; omega) (by decide) ?_
        refine Vm_iast dX5_goesBy_163 rfl (by show _ < 192; omega) (by decide) ?_
        refine V_aload_n dX5_goesBy_164 rfl ?_
        refine Vm_getA 31 dX5_goesBy_165 q1195 (by decide) ?_
        refine V_bipush dX5_goesBy_168 lb_8 ?_
        refine V_iload_n dX5_goesBy_170 rfl ?_
        refine V_imulN dX5_goesBy_171 ?_
        refine V_iload_n dX5_goesBy_172 rfl ?_
        refine V_iaddN dX5_goesBy_173 ?_
        refine V_aload_n dX5_goesBy_174 rfl ?_
        refine Vm_getA 28 dX5_goesBy_175 q1192 (by decide) ?_
        refine V_iload_n dX5_goesBy_178 rfl ?_
        refine Vm_iald dX5_goesBy_179 (by first | rfl | assumption) (by show _ < 8; omega) (by decide) ?_
        refine Vm_iast dX5_goesBy_180 rfl (by show _ < 192; omega) (by decide) ?_
        refine V_iinc dX5_goesBy_181 rfl (iinc_1 _) rfl (Nat.le_of_ble_eq_true rfl) ?_
        refine V_goto (tgt := 139) dX5_goesBy_184 (by decide) ?_
        have hf := rcF_fr d i S1
        exact V_mW (S2 := (rcF d) i S1) (by unfold rcF; rfl) (ih (i + 1) ((rcF d) i S1) (by omega) (PV_fr hf h1) (by rw [hf 2 (by omega)]; exact hn1) hR)
    exact L139 nn 0 S0 (by omega) hP0 hn0 (by rw [hn0, vN_nI (by omega)])
  have L840 : ∀ (S0 : xSt), PV S0 → ressF d (recsF d (letsF (nI d) S0)) = goesF d S → V l (yX5_goesBy.cls, cX5_goesBy, 3, none, [], yX5_goesBy.name) (rmD 4 0 0, xF0, Q, xX0) 84 [some (.ref 1000), some (.int (nI d)), some (.int (nI 0))] [] (mW S0) 0 0 := by
    intro S0 hP0 hG
    obtain ⟨nn, hnn, hn0⟩ := hP0.2.2.2.2.2.2.2.2.1
    have L84 : ∀ (j : Nat) (i : Nat) (S1 : xSt) (hj : i + j = nn) (h1 : PV S1) (hn1 : S1 17 0 = nI nn) (hR : itF (ltF (nI d)) j i S1 = itF (ltF (nI d)) (vN (S0 17 0)) 0 S0), V l (yX5_goesBy.cls, cX5_goesBy, 3, none, [], yX5_goesBy.name) (rmD 4 0 0, xF0, Q, xX0) 84 [some (.ref 1000), some (.int (nI d)), some (.int (nI i))] [] (mW S1) 0 0 := by
      intro j
      induction j with
      | zero =>
        intro i S1 hj h1 hn1 hR
        refine V_iload_n dX5_goesBy_84 rfl ?_
        refine V_aload_n dX5_goesBy_85 rfl ?_
        refine Vm_getI 17 dX5_goesBy_86 q1181 (by decide) ?_
        refine V_topi hn1 ?_
        refine V_icmp_ge (tgt := 137) dX5_goesBy_89 (by decide) (fun _ => ?_) (fun c89 => absurd (nI_le (by omega) (by omega)) c89)
        refine V_iconst dX5_goesBy_137 li_0 ?_
        refine V_istore_n dX5_goesBy_138 rfl (Nat.le_of_ble_eq_true rfl) (Nat.le_of_ble_eq_true rfl) ?_
        exact L1390 S1 h1 (by rw [← hG]; unfold letsF; rw [← hR]; rfl)
      | succ j ih =>
        intro i S1 hj h1 hn1 hR
        have ho := bd_v (h1.2.2.2.2.2.2.2.2.2 i (by omega)) (by decide)
        have ho2 := ho.2
        refine V_iload_n dX5_goesBy_84 rfl ?_
        refine V_aload_n dX5_goesBy_85 rfl ?_
        refine Vm_getI 17 dX5_goesBy_86 q1181 (by decide) ?_
        refine V_topi hn1 ?_
        refine V_icmp_ge (tgt := 137) dX5_goesBy_89 (by decide) (fun c89 => absurd c89 (nI_ge (by omega) (by omega))) (fun _ => ?_)
        refine V_aload_n dX5_goesBy_92 rfl ?_
        refine Vm_getA 18 dX5_goesBy_93 q1182 (by decide) ?_
        refine V_iload_n dX5_goesBy_96 rfl ?_
        refine Vm_iald dX5_goesBy_97 (by first | rfl | assumption) (by show _ < 6; omega) (by decide) ?_
        refine V_iload_n dX5_goesBy_98 rfl ?_
        refine V_icmp_ne (tgt := 131) dX5_goesBy_99 (by decide) (fun c99 => ?_) (fun c99 => ?_)
        · refine V_iinc dX5_goesBy_131 rfl (iinc_1 _) rfl (Nat.le_of_ble_eq_true rfl) ?_
          refine V_goto (tgt := 84) dX5_goesBy_134 (by decide) ?_
          have hf := ltF_fr (nI d) i S1
          exact V_mW (S2 := (ltF (nI d)) i S1) (by unfold ltF; rw [if_neg c99]; try rfl) (ih (i + 1) ((ltF (nI d)) i S1) (by omega) (PV_fr hf h1) (by rw [hf 17 (by omega)]; exact hn1) hR)
        · refine V_aload_n dX5_goesBy_102 rfl ?_
          refine Vm_getA 19 dX5_goesBy_103 q1183 (by decide) ?_
          refine V_iload_n dX5_goesBy_106 rfl ?_
          refine Vm_iald dX5_goesBy_107 (by first | rfl | assumption) (by show _ < 6; omega) (by decide) ?_
          refine V_aload_n dX5_goesBy_108 rfl ?_
          refine Vm_getI 2 dX5_goesBy_109 q1166 (by decide) ?_
          refine V_icmp_ge (tgt := 131) dX5_goesBy_112 (by decide) (fun c112 => ?_) (fun c112 => ?_)
          · refine V_iinc dX5_goesBy_131 rfl (iinc_1 _) rfl (Nat.le_of_ble_eq_true rfl) ?_
            refine V_goto (tgt := 84) dX5_goesBy_134 (by decide) ?_
            have hf := ltF_fr (nI d) i S1
            exact V_mW (S2 := (ltF (nI d)) i S1) (by unfold ltF; rw [if_pos c99, if_pos c112]; try rfl) (ih (i + 1) ((ltF (nI d)) i S1) (by omega) (PV_fr hf h1) (by rw [hf 17 (by omega)]; exact hn1) hR)
          · refine V_aload_n dX5_goesBy_115 rfl ?_
            refine V_aload_n dX5_goesBy_116 rfl ?_
            refine Vm_getA 19 dX5_goesBy_117 q1183 (by decide) ?_
            refine V_iload_n dX5_goesBy_120 rfl ?_
            refine Vm_iald dX5_goesBy_121 (by first | rfl | assumption) (by show _ < 6; omega) (by decide) ?_
            refine V_topi ho.1 ?_
            refine V_aload_n dX5_goesBy_122 rfl ?_
            refine Vm_getA 20 dX5_goesBy_123 q1184 (by decide) ?_
            refine V_iload_n dX5_goesBy_126 rfl ?_
            refine Vm_iald dX5_goesBy_127 (by first | rfl | assumption) (by show _ < 6; omega) (by decide) ?_
            refine Vm_callVF (m_changes l _ (vN (S1 19 i)) _ (by omega)) dX5_goesBy_128 (lw_V q1437 q1439 qs61 q103 q1440) hv_X5_changes (by decide) rfl (Nat.le_of_ble_eq_true rfl) ?_
            refine V_iinc dX5_goesBy_131 rfl (iinc_1 _) rfl (Nat.le_of_ble_eq_true rfl) ?_
            refine V_goto (tgt := 84) dX5_goesBy_134 (by decide) ?_
            have hf := ltF_fr (nI d) i S1
            exact V_mW (S2 := (ltF (nI d)) i S1) (by unfold ltF; rw [if_pos c99, if_neg c112]; try rfl) (ih (i + 1) ((ltF (nI d)) i S1) (by omega) (PV_fr hf h1) (by rw [hf 17 (by omega)]; exact hn1) hR)
    exact L84 nn 0 S0 (by omega) hP0 hn0 (by rw [hn0, vN_nI (by omega)])
  have L170 : ∀ (S0 : xSt), PV S0 → ressF d (recsF d (letsF (nI d) (liesF (nI d) S0))) = goesF d S → V l (yX5_goesBy.cls, cX5_goesBy, 3, none, [], yX5_goesBy.name) (rmD 4 0 0, xF0, Q, xX0) 17 [some (.ref 1000), some (.int (nI d)), some (.int (nI 0))] [] (mW S0) 0 0 := by
    intro S0 hP0 hG
    obtain ⟨nn, hnn, hn0⟩ := hP0.2.2.2.2.2.2.1
    have L17 : ∀ (j : Nat) (i : Nat) (S1 : xSt) (hj : i + j = nn) (h1 : PV S1) (hn1 : S1 13 0 = nI nn) (hR : itF (lyF (nI d)) j i S1 = itF (lyF (nI d)) (vN (S0 13 0)) 0 S0), V l (yX5_goesBy.cls, cX5_goesBy, 3, none, [], yX5_goesBy.name) (rmD 4 0 0, xF0, Q, xX0) 17 [some (.ref 1000), some (.int (nI d)), some (.int (nI i))] [] (mW S1) 0 0 := by
      intro j
      induction j with
      | zero =>
        intro i S1 hj h1 hn1 hR
        refine V_iload_n dX5_goesBy_17 rfl ?_
        refine V_aload_n dX5_goesBy_18 rfl ?_
        refine Vm_getI 13 dX5_goesBy_19 q1177 (by decide) ?_
        refine V_topi hn1 ?_
        refine V_icmp_ge (tgt := 82) dX5_goesBy_22 (by decide) (fun _ => ?_) (fun c22 => absurd (nI_le (by omega) (by omega)) c22)
        refine V_iconst dX5_goesBy_82 li_0 ?_
        refine V_istore_n dX5_goesBy_83 rfl (Nat.le_of_ble_eq_true rfl) (Nat.le_of_ble_eq_true rfl) ?_
        exact L840 S1 h1 (by rw [← hG]; unfold liesF; rw [← hR]; rfl)
      | succ j ih =>
        intro i S1 hj h1 hn1 hR
        have ho := bd_v (h1.2.2.2.2.2.2.2.1 i (by omega)) (by decide)
        have ho2 := ho.2
        refine V_iload_n dX5_goesBy_17 rfl ?_
        refine V_aload_n dX5_goesBy_18 rfl ?_
        refine Vm_getI 13 dX5_goesBy_19 q1177 (by decide) ?_
        refine V_topi hn1 ?_
        refine V_icmp_ge (tgt := 82) dX5_goesBy_22 (by decide) (fun c22 => absurd c22 (nI_ge (by omega) (by omega))) (fun _ => ?_)
        refine V_aload_n dX5_goesBy_25 rfl ?_
        refine Vm_getA 14 dX5_goesBy_26 q1178 (by decide) ?_
        refine V_iload_n dX5_goesBy_29 rfl ?_
        refine Vm_iald dX5_goesBy_30 (by first | rfl | assumption) (by show _ < 6; omega) (by decide) ?_
        refine V_iload_n dX5_goesBy_31 rfl ?_
        refine V_icmp_ne (tgt := 76) dX5_goesBy_32 (by decide) (fun c32 => ?_) (fun c32 => ?_)
        · refine V_iinc dX5_goesBy_76 rfl (iinc_1 _) rfl (Nat.le_of_ble_eq_true rfl) ?_
          refine V_goto (tgt := 17) dX5_goesBy_79 (by decide) ?_
          have hf := lyF_fr (nI d) i S1
          exact V_mW (S2 := (lyF (nI d)) i S1) (by unfold lyF; rw [if_neg c32]; try rfl) (ih (i + 1) ((lyF (nI d)) i S1) (by omega) (PV_fr hf h1) (by rw [hf 13 (by omega)]; exact hn1) hR)
        · refine V_aload_n dX5_goesBy_35 rfl ?_
          refine Vm_getA 15 dX5_goesBy_36 q1179 (by decide) ?_
          refine V_iload_n dX5_goesBy_39 rfl ?_
          refine Vm_iald dX5_goesBy_40 (by first | rfl | assumption) (by show _ < 6; omega) (by decide) ?_
          refine V_aload_n dX5_goesBy_41 rfl ?_
          refine Vm_getI 2 dX5_goesBy_42 q1166 (by decide) ?_
          refine V_icmp_ge (tgt := 76) dX5_goesBy_45 (by decide) (fun c45 => ?_) (fun c45 => ?_)
          · refine V_iinc dX5_goesBy_76 rfl (iinc_1 _) rfl (Nat.le_of_ble_eq_true rfl) ?_
            refine V_goto (tgt := 17) dX5_goesBy_79 (by decide) ?_
            have hf := lyF_fr (nI d) i S1
            exact V_mW (S2 := (lyF (nI d)) i S1) (by unfold lyF; rw [if_pos c32, if_pos c45]; try rfl) (ih (i + 1) ((lyF (nI d)) i S1) (by omega) (PV_fr hf h1) (by rw [hf 13 (by omega)]; exact hn1) hR)
          · refine V_aload_n dX5_goesBy_48 rfl ?_
            refine Vm_getI 26 dX5_goesBy_49 q1190 (by decide) ?_
            refine V_iload_n dX5_goesBy_52 rfl ?_
            refine Vs_callIF (m_isIn l _ _) dX5_goesBy_53 (lw_S q1445 q1446 q103 q1447) hs_X5_isIn (by decide) rfl (Nat.le_of_ble_eq_true rfl) ?_
            refine V_if_neB (tgt := 76) dX5_goesBy_56 (by decide) (fun c56 => ?_) (fun c56 => ?_)
            · refine V_iinc dX5_goesBy_76 rfl (iinc_1 _) rfl (Nat.le_of_ble_eq_true rfl) ?_
              refine V_goto (tgt := 17) dX5_goesBy_79 (by decide) ?_
              have hf := lyF_fr (nI d) i S1
              exact V_mW (S2 := (lyF (nI d)) i S1) (by unfold lyF; rw [if_pos c32, if_neg c45, if_pos c56]; try rfl) (ih (i + 1) ((lyF (nI d)) i S1) (by omega) (PV_fr hf h1) (by rw [hf 13 (by omega)]; exact hn1) hR)
            · refine V_aload_n dX5_goesBy_59 rfl ?_
              refine V_aload_n dX5_goesBy_60 rfl ?_
              refine Vm_getA 15 dX5_goesBy_61 q1179 (by decide) ?_
              refine V_iload_n dX5_goesBy_64 rfl ?_
              refine Vm_iald dX5_goesBy_65 (by first | rfl | assumption) (by show _ < 6; omega) (by decide) ?_
              refine V_topi ho.1 ?_
              refine V_aload_n dX5_goesBy_66 rfl ?_
              refine Vm_getA 16 dX5_goesBy_67 q1180 (by decide) ?_
              refine V_iload_n dX5_goesBy_70 rfl ?_
              refine Vm_iald dX5_goesBy_71 (by first | rfl | assumption) (by show _ < 6; omega) (by decide) ?_
              refine V_ineg dX5_goesBy_72 ?_
              refine Vm_callVF (m_changes l _ (vN (S1 15 i)) _ (by omega)) dX5_goesBy_73 (lw_V q1437 q1439 qs61 q103 q1440) hv_X5_changes (by decide) rfl (Nat.le_of_ble_eq_true rfl) ?_
              refine V_iinc dX5_goesBy_76 rfl (iinc_1 _) rfl (Nat.le_of_ble_eq_true rfl) ?_
              refine V_goto (tgt := 17) dX5_goesBy_79 (by decide) ?_
              have hf := lyF_fr (nI d) i S1
              exact V_mW (S2 := (lyF (nI d)) i S1) (by unfold lyF; rw [if_pos c32, if_neg c45, if_neg c56]; try rfl) (ih (i + 1) ((lyF (nI d)) i S1) (by omega) (PV_fr hf h1) (by rw [hf 13 (by omega)]; exact hn1) hR)
    exact L17 nn 0 S0 (by omega) hP0 hn0 (by rw [hn0, vN_nI (by omega)])
  refine V_aload_n dX5_goesBy_0 rfl ?_
  refine V_iload_n dX5_goesBy_1 rfl ?_
  refine Vm_callVF (m_makes l _ (nI d) hP) dX5_goesBy_2 (lw_V q1429 q1431 qs59 q103 q1432) hv_X5_makes (by decide) rfl (Nat.le_of_ble_eq_true rfl) ?_
  refine V_aload_n dX5_goesBy_5 rfl ?_
  refine V_iload_n dX5_goesBy_6 rfl ?_
  refine Vm_callVF (m_keepsOn l _ (nI d) (PV_fr (makesF_fr _ S) hP)) dX5_goesBy_7 (lw_V q1441 q1443 qs62 q103 q1444) hv_X5_keepsOn (by decide) rfl (Nat.le_of_ble_eq_true rfl) ?_
  refine V_aload_n dX5_goesBy_10 rfl ?_
  refine V_iload_n dX5_goesBy_11 rfl ?_
  refine Vm_callVF (m_breaks l _ (nI d) (PV_fr (fr_tr (makesF_fr _ S) (keepsF_fr _ _)) hP)) dX5_goesBy_12 (lw_V q1452 q1454 qs64 q103 q1455) hv_X5_breaks (by decide) rfl (Nat.le_of_ble_eq_true rfl) ?_
  refine V_iconst dX5_goesBy_15 li_0 ?_
  refine V_istore_n dX5_goesBy_16 rfl (Nat.le_of_ble_eq_true rfl) (Nat.le_of_ble_eq_true rfl) ?_
  exact L170 _ (PV_fr (fr_tr (fr_tr (makesF_fr _ S) (keepsF_fr _ _)) (breaksF_fr _ _)) hP) rfl
set_option maxHeartbeats 4000000 in
theorem m_runs (l : Launch) (S : xSt) (hP : PV S) : Cm l yX5_runs cX5_runs 2 none 5 [] S (fun r S' => r = none ∧ S' = runsF S) := by
  refine Cm_start (ls := [some (.ref 1000), none]) (by decide) rfl (Nat.le_of_ble_eq_true rfl) ?_
  intro Q hQ
  have L60 : ∀ (j i : Nat) (S1 : xSt) (hj : i + j = 24) (h1 : PV S1) (hR : itF goesF j i S1 = runsF S), V l (yX5_runs.cls, cX5_runs, 2, none, [], yX5_runs.name) (rmD 5 0 0, xF0, Q, xX0) 60 [some (.ref 1000), some (.int (nI i))] [] (mW S1) 0 0 := by
    intro j
    induction j with
    | zero =>
      intro i S1 hj h1 hR
      refine V_iload_n dX5_runs_60 rfl ?_
      refine V_bipush dX5_runs_61 lb_24 ?_
      refine V_icmp_ge (tgt := 77) dX5_runs_63 (by decide) (fun _ => ?_) (fun c63 => absurd (nI_le (by omega) (by omega)) c63)
      exact V_vreturn dX5_runs_77 rfl (hQ _ _ ⟨rfl, by rw [← hR]; rfl⟩)
    | succ j ih =>
      intro i S1 hj h1 hR
      refine V_iload_n dX5_runs_60 rfl ?_
      refine V_bipush dX5_runs_61 lb_24 ?_
      refine V_icmp_ge (tgt := 77) dX5_runs_63 (by decide) (fun c63 => absurd c63 (nI_ge (by omega) (by omega))) (fun _ => ?_)
      refine V_aload_n dX5_runs_66 rfl ?_
      refine V_iload_n dX5_runs_67 rfl ?_
      refine Vm_callVF (m_goesBy l _ i (by omega) h1) dX5_runs_68 (lw_V q1425 q1427 qs58 q103 q1428) hv_X5_goesBy (by decide) rfl (Nat.le_of_ble_eq_true rfl) ?_
      refine V_iinc dX5_runs_71 rfl (iinc_1 _) rfl (Nat.le_of_ble_eq_true rfl) ?_
      refine V_goto (tgt := 60) dX5_runs_74 (by decide) ?_
      exact ih (i + 1) _ (by omega) (PV_fr (goesF_fr i S1) h1) hR
  have L370 : ∀ (S0 : xSt), PV S0 → daysF (st2sF S0) = runsF S → V l (yX5_runs.cls, cX5_runs, 2, none, [], yX5_runs.name) (rmD 5 0 0, xF0, Q, xX0) 37 [some (.ref 1000), some (.int (nI 0))] [] (mW S0) 0 0 := by
    intro S0 hP0 hG
    obtain ⟨nn, hnn, hn0⟩ := hP0.2.2.1
    have L37 : ∀ (j : Nat) (i : Nat) (S1 : xSt) (hj : i + j = nn) (h1 : PV S1) (hn1 : S1 21 0 = nI nn) (hR : itF st2F j i S1 = itF st2F (vN (S0 21 0)) 0 S0), V l (yX5_runs.cls, cX5_runs, 2, none, [], yX5_runs.name) (rmD 5 0 0, xF0, Q, xX0) 37 [some (.ref 1000), some (.int (nI i))] [] (mW S1) 0 0 := by
      intro j
      induction j with
      | zero =>
        intro i S1 hj h1 hn1 hR
        refine V_iload_n dX5_runs_37 rfl ?_
        refine V_aload_n dX5_runs_38 rfl ?_
        refine Vm_getI 21 dX5_runs_39 q1185 (by decide) ?_
        refine V_topi hn1 ?_
        refine V_icmp_ge (tgt := 58) dX5_runs_42 (by decide) (fun _ => ?_) (fun c42 => absurd (nI_le (by omega) (by omega)) c42)
        refine V_iconst dX5_runs_58 li_0 ?_
        refine V_istore_n dX5_runs_59 rfl (Nat.le_of_ble_eq_true rfl) (Nat.le_of_ble_eq_true rfl) ?_
        exact L60 24 0 S1 rfl h1 (by rw [← hG]; unfold st2sF; rw [← hR]; rfl)
      | succ j ih =>
        intro i S1 hj h1 hn1 hR
        refine V_iload_n dX5_runs_37 rfl ?_
        refine V_aload_n dX5_runs_38 rfl ?_
        refine Vm_getI 21 dX5_runs_39 q1185 (by decide) ?_
        refine V_topi hn1 ?_
        refine V_icmp_ge (tgt := 58) dX5_runs_42 (by decide) (fun c42 => absurd c42 (nI_ge (by omega) (by omega))) (fun _ => ?_)
        refine V_aload_n dX5_runs_45 rfl ?_
        refine Vm_getA 29 dX5_runs_46 q1193 (by decide) ?_
        refine V_iload_n dX5_runs_49 rfl ?_
        refine V_iconst dX5_runs_50 li_0 ?_
        refine Vm_iast dX5_runs_51 (by first | rfl | assumption) (by show _ < 12; omega) (by decide) ?_
        refine V_iinc dX5_runs_52 rfl (iinc_1 _) rfl (Nat.le_of_ble_eq_true rfl) ?_
        refine V_goto (tgt := 37) dX5_runs_55 (by decide) ?_
        have hf := st2F_fr i S1
        exact V_mW (S2 := st2F i S1) (by unfold st2F; rfl) (ih (i + 1) (st2F i S1) (by omega) (PV_fr hf h1) (by rw [hf 21 (by omega)]; exact hn1) hR)
    exact L37 nn 0 S0 (by omega) hP0 hn0 (by rw [hn0, vN_nI (by omega)])
  have L20 : ∀ (S0 : xSt), PV S0 → daysF (st2sF (st1sF S0)) = runsF S → V l (yX5_runs.cls, cX5_runs, 2, none, [], yX5_runs.name) (rmD 5 0 0, xF0, Q, xX0) 2 [some (.ref 1000), some (.int (nI 0))] [] (mW S0) 0 0 := by
    intro S0 hP0 hG
    obtain ⟨nn, hnn, hn0⟩ := hP0.1
    have L2 : ∀ (j : Nat) (i : Nat) (S1 : xSt) (hj : i + j = nn) (h1 : PV S1) (hn1 : S1 2 0 = nI nn) (hR : itF st1F j i S1 = itF st1F (vN (S0 2 0)) 0 S0), V l (yX5_runs.cls, cX5_runs, 2, none, [], yX5_runs.name) (rmD 5 0 0, xF0, Q, xX0) 2 [some (.ref 1000), some (.int (nI i))] [] (mW S1) 0 0 := by
      intro j
      induction j with
      | zero =>
        intro i S1 hj h1 hn1 hR
        refine V_iload_n dX5_runs_2 rfl ?_
        refine V_aload_n dX5_runs_3 rfl ?_
        refine Vm_getI 2 dX5_runs_4 q1166 (by decide) ?_
        refine V_topi hn1 ?_
        refine V_icmp_ge (tgt := 35) dX5_runs_7 (by decide) (fun _ => ?_) (fun c7 => absurd (nI_le (by omega) (by omega)) c7)
        refine V_iconst dX5_runs_35 li_0 ?_
        refine V_istore_n dX5_runs_36 rfl (Nat.le_of_ble_eq_true rfl) (Nat.le_of_ble_eq_true rfl) ?_
        exact L370 S1 h1 (by rw [← hG]; unfold st1sF; rw [← hR]; rfl)
      | succ j ih =>
        intro i S1 hj h1 hn1 hR
        refine V_iload_n dX5_runs_2 rfl ?_
        refine V_aload_n dX5_runs_3 rfl ?_
        refine Vm_getI 2 dX5_runs_4 q1166 (by decide) ?_
        refine V_topi hn1 ?_
        refine V_icmp_ge (tgt := 35) dX5_runs_7 (by decide) (fun c7 => absurd c7 (nI_ge (by omega) (by omega))) (fun _ => ?_)
        refine V_aload_n dX5_runs_10 rfl ?_
        refine Vm_getA 27 dX5_runs_11 q1191 (by decide) ?_
        refine V_iload_n dX5_runs_14 rfl ?_
        refine V_aload_n dX5_runs_15 rfl ?_
        refine Vm_getA 4 dX5_runs_16 q1168 (by decide) ?_
        refine V_iload_n dX5_runs_19 rfl ?_
        refine Vm_iald dX5_runs_20 (by first | rfl | assumption) (by show _ < 9; omega) (by decide) ?_
        refine Vm_iast dX5_runs_21 (by first | rfl | assumption) (by show _ < 8; omega) (by decide) ?_
        refine V_aload_n dX5_runs_22 rfl ?_
        refine Vm_getA 28 dX5_runs_23 q1192 (by decide) ?_
        refine V_iload_n dX5_runs_26 rfl ?_
        refine V_iconst dX5_runs_27 li_0 ?_
        refine Vm_iast dX5_runs_28 (by first | rfl | assumption) (by show _ < 8; omega) (by decide) ?_
        refine V_iinc dX5_runs_29 rfl (iinc_1 _) rfl (Nat.le_of_ble_eq_true rfl) ?_
        refine V_goto (tgt := 2) dX5_runs_32 (by decide) ?_
        have hf := st1F_fr i S1
        exact V_mW (S2 := st1F i S1) (by unfold st1F; rfl) (ih (i + 1) (st1F i S1) (by omega) (PV_fr hf h1) (by rw [hf 2 (by omega)]; exact hn1) hR)
    exact L2 nn 0 S0 (by omega) hP0 hn0 (by rw [hn0, vN_nI (by omega)])
  refine V_iconst dX5_runs_0 li_0 ?_
  refine V_istore_n dX5_runs_1 rfl (Nat.le_of_ble_eq_true rfl) (Nat.le_of_ble_eq_true rfl) ?_
  exact L20 S hP rfl
