/-! the model: MI kept by questions; digest -/
set_option maxRecDepth 100000

theorem MI_person {S : xSt} (hS : MI S) (k what : Int32) : MI (personP k what S).2 := by
  unfold personP
  have hR := MI_reads hS
  have hT := MI_RT hS
  have hU := MI_RT hR
  by_cases h0 : nI 0 ≤ k ∧ k ≤ readsF S 2 0 - nI 1
  case neg => rw [if_neg h0]; dsimp only; exact hR
  rw [if_pos h0]
  by_cases h1 : nI 0 ≤ what ∧ what ≤ nI 1
  case neg => rw [if_neg h1]; dsimp only; exact hR
  rw [if_pos h1]
  try dsimp only
  exact hR
theorem MI_promise {S : xSt} (hS : MI S) (k what : Int32) : MI (promiseP k what S).2 := by
  unfold promiseP
  have hR := MI_reads hS
  have hT := MI_RT hS
  have hU := MI_RT hR
  by_cases h0 : nI 0 ≤ k ∧ k ≤ readsF S 5 0 - nI 1
  case neg => rw [if_neg h0]; dsimp only; exact hR
  rw [if_pos h0]
  by_cases h1 : nI 0 ≤ what ∧ what ≤ nI 3
  case neg => rw [if_neg h1]; dsimp only; exact hR
  rw [if_pos h1]
  try dsimp only
  exact hR
theorem MI_coat {S : xSt} (hS : MI S) (d k what : Int32) : MI (coatP d k what S).2 := by
  unfold coatP
  have hR := MI_reads hS
  have hT := MI_RT hS
  have hU := MI_RT hR
  by_cases h0 : nI 0 ≤ d ∧ d ≤ nI 23
  case neg => rw [if_neg h0]; dsimp only; exact hS
  rw [if_pos h0]
  by_cases h1 : nI 0 ≤ k ∧ k ≤ readsF S 2 0 - nI 1
  case neg => rw [if_neg h1]; dsimp only; exact hR
  rw [if_pos h1]
  by_cases h2 : nI 0 ≤ what ∧ what ≤ nI 2
  case neg => rw [if_neg h2]; dsimp only; exact hR
  rw [if_pos h2]
  try dsimp only
  exact hU
theorem MI_stands {S : xSt} (hS : MI S) (d p : Int32) : MI (standsP d p S).2 := by
  unfold standsP
  have hR := MI_reads hS
  have hT := MI_RT hS
  have hU := MI_RT hR
  by_cases h0 : nI 0 ≤ d ∧ d ≤ nI 23
  case neg => rw [if_neg h0]; dsimp only; exact hS
  rw [if_pos h0]
  by_cases h1 : nI 0 ≤ p ∧ p ≤ readsF S 5 0 - nI 1
  case neg => rw [if_neg h1]; dsimp only; exact hR
  rw [if_pos h1]
  try dsimp only
  exact hU
theorem MI_neat {S : xSt} (hS : MI S) (d : Int32) : MI (neatP d S).2 := by
  unfold neatP
  have hR := MI_reads hS
  have hT := MI_RT hS
  have hU := MI_RT hR
  by_cases h0 : nI 0 ≤ d ∧ d ≤ nI 23
  case neg => rw [if_neg h0]; dsimp only; exact hS
  rw [if_pos h0]
  try dsimp only
  exact hT
theorem MI_naked {S : xSt} (hS : MI S) (d : Int32) : MI (nakedP d S).2 := by
  unfold nakedP
  have hR := MI_reads hS
  have hT := MI_RT hS
  have hU := MI_RT hR
  by_cases h0 : nI 0 ≤ d ∧ d ≤ nI 23
  case neg => rw [if_neg h0]; dsimp only; exact hS
  rw [if_pos h0]
  try dsimp only
  exact hT
theorem MI_long {S : xSt} (hS : MI S) (d : Int32) : MI (longP d S).2 := by
  unfold longP
  have hR := MI_reads hS
  have hT := MI_RT hS
  have hU := MI_RT hR
  by_cases h0 : nI 0 ≤ d ∧ d ≤ nI 23
  case neg => rw [if_neg h0]; dsimp only; exact hS
  rw [if_pos h0]
  try dsimp only
  exact hT
theorem MI_swear {S : xSt} (hS : MI S) (k day : Int32) : MI (swearP k day S).2 := by
  unfold swearP
  have hR := MI_reads hS
  have hT := MI_RT hS
  have hU := MI_RT hR
  by_cases h0 : nI 0 ≤ k ∧ k ≤ readsF S 2 0 - nI 1
  case neg => rw [if_neg h0]; dsimp only; exact hR
  rw [if_pos h0]
  by_cases h1 : nI 0 ≤ day ∧ day ≤ nI 23
  case neg => rw [if_neg h1]; dsimp only; exact hR
  rw [if_pos h1]
  obtain ⟨k, rfl, -, hk⟩ := bd_in (n := 8) (by decide) (DV_reads hS).2.1 h0
  rw [show vN (nI k) = k from vN_nI (by omega)]
  try dsimp only
  exact (DV_sw hR hk).1
theorem MI_keep {S : xSt} (hS : MI S) (d what : Int32) : MI (keepP d what S).2 := by
  unfold keepP
  have hR := MI_reads hS
  have hT := MI_RT hS
  have hU := MI_RT hR
  by_cases h0 : nI 0 ≤ d ∧ d ≤ nI 23
  case neg => rw [if_neg h0]; dsimp only; exact hS
  rw [if_pos h0]
  by_cases h1 : nI 0 ≤ what ∧ what ≤ nI 1
  case neg => rw [if_neg h1]; dsimp only; exact hS
  rw [if_pos h1]
  try dsimp only
  exact (DV_kb hS).1
theorem MI_due {S : xSt} (hS : MI S) (p what : Int32) : MI (dueP p what S).2 := by
  unfold dueP
  have hR := MI_reads hS
  have hT := MI_RT hS
  have hU := MI_RT hR
  by_cases h0 : nI 0 ≤ p ∧ p ≤ readsF S 5 0 - nI 1
  case neg => rw [if_neg h0]; dsimp only; exact hR
  rw [if_pos h0]
  by_cases h1 : nI 0 ≤ what ∧ what ≤ nI 1
  case neg => rw [if_neg h1]; dsimp only; exact hR
  rw [if_pos h1]
  try dsimp only
  exact (DV_du hR).1
theorem MI_hush {S : xSt} (hS : MI S) (i : Int32) : MI (hushP i S).2 := by
  unfold hushP
  have hR := MI_reads hS
  have hT := MI_RT hS
  have hU := MI_RT hR
  by_cases h0 : -1 ≤ i ∧ i ≤ nI 1
  case neg => rw [if_neg h0]; dsimp only; exact hS
  rw [if_pos h0]
  try dsimp only
  exact (DV_hu hS).1
theorem MI_never {S : xSt} (hS : MI S) : MI (neverP S).2 := by
  unfold neverP
  have hR := MI_reads hS
  have hT := MI_RT hS
  have hU := MI_RT hR
  try dsimp only
  exact (DV_nv hS).1
theorem MI_was {S : xSt} (hS : MI S) (k what : Int32) : MI (wasP k what S).2 := by
  unfold wasP
  have hR := MI_reads hS
  have hT := MI_RT hS
  have hU := MI_RT hR
  by_cases h0 : nI 0 ≤ k ∧ k ≤ readsF S 2 0 - nI 1
  case neg => rw [if_neg h0]; dsimp only; exact hR
  rw [if_pos h0]
  by_cases h1 : nI 0 ≤ what ∧ what ≤ nI 1
  case neg => rw [if_neg h1]; dsimp only; exact hR
  rw [if_pos h1]
  by_cases h2 : what = 0
  · rw [if_pos h2]; exact (DV_sz hR).1
  · rw [if_neg h2]; exact (DV_so hR).1
theorem MI_ask {S : xSt} (hS : MI S) (k : Int32) : MI (askP k S).2 := by
  unfold askP
  have hR := MI_reads hS
  have hT := MI_RT hS
  have hU := MI_RT hR
  by_cases h0 : nI 0 ≤ k ∧ k ≤ readsF S 2 0 - nI 1
  case neg => rw [if_neg h0]; dsimp only; exact hR
  rw [if_pos h0]
  try dsimp only
  exact (DV_ak hR).1
theorem MI_word {S : xSt} (hS : MI S) (c k day what : Int32) : MI (wordP c k day what S).2 := by
  unfold wordP
  have hR := MI_reads hS
  have hT := MI_RT hS
  have hU := MI_RT hR
  by_cases h0 : nI 0 ≤ c ∧ c ≤ nI 16
  case neg => rw [if_neg h0]; dsimp only; exact hS
  rw [if_pos h0]
  by_cases h1 : nI 0 ≤ k ∧ k ≤ readsF S 2 0 - nI 1
  case neg => rw [if_neg h1]; dsimp only; exact hR
  rw [if_pos h1]
  by_cases h2 : nI 0 ≤ day ∧ day ≤ nI 23
  case neg => rw [if_neg h2]; dsimp only; exact hR
  rw [if_pos h2]
  by_cases h3 : nI 0 ≤ what ∧ what ≤ nI 1
  case neg => rw [if_neg h3]; dsimp only; exact hR
  rw [if_pos h3]
  try dsimp only
  exact (DV_wo hR).1
theorem MI_year {S : xSt} (hS : MI S) (seed n what : Int32) : MI (yearP seed n what S).2 := by
  unfold yearP
  have hR := MI_reads hS
  have hT := MI_RT hS
  have hU := MI_RT hR
  by_cases h0 : nI 0 ≤ n ∧ n ≤ nI 8
  case neg => rw [if_neg h0]; dsimp only; exact hS
  rw [if_pos h0]
  by_cases h1 : nI 0 ≤ what ∧ what ≤ nI 1
  case neg => rw [if_neg h1]; dsimp only; exact hS
  rw [if_pos h1]
  obtain ⟨n, hn, rfl⟩ := bd_I (by decide) h0
  rw [show vN (nI n) = n from vN_nI (by omega)]
  try dsimp only
  exact (DV_yr hS hn).1
theorem MI_count {S : xSt} (hS : MI S) (what : Int32) : MI (countP what S).2 := by
  rcases in9 what with ⟨k, hk, rfl⟩ | ⟨ho, hne⟩
  · match k, hk with
    | 0, _ => unfold countP; rw [if_pos rfl]; unfold sumP; exact MI_reads hS
    | 1, _ => unfold countP; rw [if_neg (show ¬ nI 1 = nI 0 by decide +kernel), if_pos rfl]; unfold sumP; exact MI_reads hS
    | 2, _ => unfold countP; rw [if_neg (show ¬ nI 2 = nI 0 by decide +kernel), if_neg (show ¬ nI 2 = nI 1 by decide +kernel), if_pos rfl]; exact hS
    | 3, _ => unfold countP; rw [if_neg (show ¬ nI 3 = nI 0 by decide +kernel), if_neg (show ¬ nI 3 = nI 1 by decide +kernel), if_neg (show ¬ nI 3 = nI 2 by decide +kernel), if_pos rfl]; exact hS
    | 4, _ => unfold countP; rw [if_neg (show ¬ nI 4 = nI 0 by decide +kernel), if_neg (show ¬ nI 4 = nI 1 by decide +kernel), if_neg (show ¬ nI 4 = nI 2 by decide +kernel), if_neg (show ¬ nI 4 = nI 3 by decide +kernel), if_pos rfl]; exact hS
    | 5, _ => unfold countP; rw [if_neg (show ¬ nI 5 = nI 0 by decide +kernel), if_neg (show ¬ nI 5 = nI 1 by decide +kernel), if_neg (show ¬ nI 5 = nI 2 by decide +kernel), if_neg (show ¬ nI 5 = nI 3 by decide +kernel), if_neg (show ¬ nI 5 = nI 4 by decide +kernel), if_pos rfl]; exact hS
    | 6, _ => unfold countP; rw [if_neg (show ¬ nI 6 = nI 0 by decide +kernel), if_neg (show ¬ nI 6 = nI 1 by decide +kernel), if_neg (show ¬ nI 6 = nI 2 by decide +kernel), if_neg (show ¬ nI 6 = nI 3 by decide +kernel), if_neg (show ¬ nI 6 = nI 4 by decide +kernel), if_neg (show ¬ nI 6 = nI 5 by decide +kernel), if_pos rfl]; exact hS
    | 7, _ => unfold countP; rw [if_neg (show ¬ nI 7 = nI 0 by decide +kernel), if_neg (show ¬ nI 7 = nI 1 by decide +kernel), if_neg (show ¬ nI 7 = nI 2 by decide +kernel), if_neg (show ¬ nI 7 = nI 3 by decide +kernel), if_neg (show ¬ nI 7 = nI 4 by decide +kernel), if_neg (show ¬ nI 7 = nI 5 by decide +kernel), if_neg (show ¬ nI 7 = nI 6 by decide +kernel), if_pos rfl]; exact hS
    | 8, _ => unfold countP; rw [if_neg (show ¬ nI 8 = nI 0 by decide +kernel), if_neg (show ¬ nI 8 = nI 1 by decide +kernel), if_neg (show ¬ nI 8 = nI 2 by decide +kernel), if_neg (show ¬ nI 8 = nI 3 by decide +kernel), if_neg (show ¬ nI 8 = nI 4 by decide +kernel), if_neg (show ¬ nI 8 = nI 5 by decide +kernel), if_neg (show ¬ nI 8 = nI 6 by decide +kernel), if_neg (show ¬ nI 8 = nI 7 by decide +kernel), if_pos rfl]; exact hS
    | n + 9, h => exact absurd h (by omega)
  · unfold countP
    rw [if_neg (hne 0 (by decide)), if_neg (hne 1 (by decide)), if_neg (hne 2 (by decide)), if_neg (hne 3 (by decide)), if_neg (hne 4 (by decide)), if_neg (hne 5 (by decide)), if_neg (hne 6 (by decide)), if_neg (hne 7 (by decide)), if_neg (hne 8 (by decide))]
    exact hS
def mx (h : Int64) (x : Int32) : Int64 := 31 * h + x.toInt64
def itH (f : Nat → Int64 → Int64) : Nat → Nat → Int64 → Int64
  | 0, _, h => h
  | j + 1, i, h => itH f j (i + 1) (f i h)
theorem itH_s (f : Nat → Int64 → Int64) (j i : Nat) (h : Int64) : itH f (j + 1) i h = itH f j (i + 1) (f i h) := rfl
def pdI (S : xSt) (p i : Nat) (h : Int64) : Int64 := mx h (promiseV S p (nI i))
def pd4 (p : Nat) (h : Int64) (S : xSt) : Int64 := itH (pdI S p) 4 0 h
def pdF3 (p : Nat) (h : Int64) (S : xSt) : Int64 × xSt := (mx h (dueF p (nI 1) (asToldF S)).1, (dueF p (nI 1) (asToldF S)).2)
def pdF2 (p : Nat) (h : Int64) (S : xSt) : Int64 × xSt := pdF3 p (mx h (dueF p (nI 0) (asToldF S)).1) (dueF p (nI 0) (asToldF S)).2
def pdF1 (p : Nat) (h : Int64) (S : xSt) : Int64 × xSt := pdF2 p (mx h (RT S 32 (12 * 23 + p))) (RT S)
def pdF0 (p : Nat) (h : Int64) (S : xSt) : Int64 × xSt := pdF1 p (mx h (RT S 32 (12 * 8 + p))) (RT S)
def pdF (p : Nat) (h : Int64) (S : xSt) : Int64 × xSt := pdF0 p (pd4 p h S) S

set_option maxHeartbeats 4000000 in
theorem m_promiseDigest (l : Launch) (S : xSt) (h : Int64) (p : Nat) (hp : p < 10) (hS : MI S) : Cm l yX5_promiseDigest cX5_promiseDigest 7 (some .long) 9 [.long h, .int (nI p)] S (fun r S' => ∃ x, r = some (.long x) ∧ x = (pdF p h S).1 ∧ S' = (pdF p h S).2) := by
  refine Cm_start (ls := [some (.ref 1000), some (.long h), none, some (.int (nI p)), none, none, none]) (by decide) rfl (Nat.le_of_ble_eq_true rfl) ?_
  intro Q hQ
  unfold pdF at hQ
  have J35 : V l (yX5_promiseDigest.cls, cX5_promiseDigest, 7, (some .long), [], yX5_promiseDigest.name) (rmD 9 0 0, xF0, Q, xX0) 35 [some (.ref 1000), some (.long h), none, some (.int (nI p)), some (.long (pd4 p h S)), none, some (.int (nI 4))] [] (mW S) 0 0 := by
    generalize pd4 p h S = g at hQ
    unfold pdF0 at hQ
    have c1 := m_standsOf l S 8 p (by omega) hp hS
    have hM1 := MI_RT hS
    generalize RT S = S1 at hQ c1 hM1
    unfold pdF1 at hQ
    have c2 := m_standsOf l S1 23 p (by omega) hp hM1
    have hM2 := MI_RT hM1
    generalize RT S1 = S2 at hQ c2 hM2
    unfold pdF2 at hQ
    have c3 := m_dueOf l S2 p (nI 0) hp hM2
    have hM3 := (DV_du (p := p) (what := nI 0) hM2).1
    generalize dueF p (nI 0) (asToldF S2) = G3 at hQ c3 hM3
    obtain ⟨x3, S3⟩ := G3
    dsimp only at hQ c3 hM3
    unfold pdF3 at hQ
    have c4 := m_dueOf l S3 p (nI 1) hp hM3
    generalize dueF p (nI 1) (asToldF S3) = G4 at hQ c4
    obtain ⟨x4, S4⟩ := G4
    dsimp only at hQ c4
    refine V_ldc2 dX5_promiseDigest_35 q1670 ?_
    refine V_lload dX5_promiseDigest_38 rfl ?_
    refine V_lmul dX5_promiseDigest_40 ?_
    refine V_aload_n dX5_promiseDigest_41 rfl ?_
    refine V_bipush dX5_promiseDigest_42 lb_8 ?_
    refine V_iload_n dX5_promiseDigest_44 rfl ?_
    refine Vm_callIF c1 dX5_promiseDigest_45 (lw_V q1464 q1466 qs66 q103 q1467) hv_X5_standsOf (by decide) rfl (Nat.le_of_ble_eq_true rfl) ?_
    refine V_i2l dX5_promiseDigest_48 rfl ?_
    refine V_ladd dX5_promiseDigest_49 ?_
    refine V_lstore dX5_promiseDigest_50 rfl (Nat.le_of_ble_eq_true rfl) (Nat.le_of_ble_eq_true rfl) ?_
    refine V_ldc2 dX5_promiseDigest_52 q1670 ?_
    refine V_lload dX5_promiseDigest_55 rfl ?_
    refine V_lmul dX5_promiseDigest_57 ?_
    refine V_aload_n dX5_promiseDigest_58 rfl ?_
    refine V_bipush dX5_promiseDigest_59 lb_23 ?_
    refine V_iload_n dX5_promiseDigest_61 rfl ?_
    refine Vm_callIF c2 dX5_promiseDigest_62 (lw_V q1464 q1466 qs66 q103 q1467) hv_X5_standsOf (by decide) rfl (Nat.le_of_ble_eq_true rfl) ?_
    refine V_i2l dX5_promiseDigest_65 rfl ?_
    refine V_ladd dX5_promiseDigest_66 ?_
    refine V_lstore dX5_promiseDigest_67 rfl (Nat.le_of_ble_eq_true rfl) (Nat.le_of_ble_eq_true rfl) ?_
    refine V_ldc2 dX5_promiseDigest_69 q1670 ?_
    refine V_lload dX5_promiseDigest_72 rfl ?_
    refine V_lmul dX5_promiseDigest_74 ?_
    refine V_aload_n dX5_promiseDigest_75 rfl ?_
    refine V_iload_n dX5_promiseDigest_76 rfl ?_
    refine V_iconst dX5_promiseDigest_77 li_0 ?_
    refine Vm_callIF c3 dX5_promiseDigest_78 (lw_V q1540 q1542 qs77 q103 q1543) hv_X5_dueOf (by decide) rfl (Nat.le_of_ble_eq_true rfl) ?_
    refine V_i2l dX5_promiseDigest_81 rfl ?_
    refine V_ladd dX5_promiseDigest_82 ?_
    refine V_lstore dX5_promiseDigest_83 rfl (Nat.le_of_ble_eq_true rfl) (Nat.le_of_ble_eq_true rfl) ?_
    refine V_ldc2 dX5_promiseDigest_85 q1670 ?_
    refine V_lload dX5_promiseDigest_88 rfl ?_
    refine V_lmul dX5_promiseDigest_90 ?_
    refine V_aload_n dX5_promiseDigest_91 rfl ?_
    refine V_iload_n dX5_promiseDigest_92 rfl ?_
    refine V_iconst dX5_promiseDigest_93 li_1 ?_
    refine Vm_callIF c4 dX5_promiseDigest_94 (lw_V q1540 q1542 qs77 q103 q1543) hv_X5_dueOf (by decide) rfl (Nat.le_of_ble_eq_true rfl) ?_
    refine V_i2l dX5_promiseDigest_97 rfl ?_
    refine V_ladd dX5_promiseDigest_98 ?_
    exact V_lreturn dX5_promiseDigest_99 rfl (hQ _ _ ⟨_, rfl, ⟨rfl, rfl⟩⟩)
  have L6 : ∀ (j : Nat) (i : Nat) (g : Int64) (hj : i + j = 4) (hR : itH (pdI S p) j i g = pd4 p h S), V l (yX5_promiseDigest.cls, cX5_promiseDigest, 7, (some .long), [], yX5_promiseDigest.name) (rmD 9 0 0, xF0, Q, xX0) 6 [some (.ref 1000), some (.long h), none, some (.int (nI p)), some (.long g), none, some (.int (nI i))] [] (mW S) 0 0 := by
    intro j
    induction j with
    | zero =>
      intro i g hj hR
      refine V_iload dX5_promiseDigest_6 rfl ?_
      refine V_iconst dX5_promiseDigest_8 li_4 ?_
      refine V_icmp_ge (tgt := 35) dX5_promiseDigest_9 (by decide) (fun _ => ?_) (fun c9 => absurd (nI_le (by omega) (by omega)) c9)
      have e : g = pd4 p h S := hR
      have ei : i = 4 := by omega
      rw [e, ei]
      exact J35
    | succ j ih =>
      intro i g hj hR
      refine V_iload dX5_promiseDigest_6 rfl ?_
      refine V_iconst dX5_promiseDigest_8 li_4 ?_
      refine V_icmp_ge (tgt := 35) dX5_promiseDigest_9 (by decide) (fun c9 => absurd c9 (nI_ge (by omega) (by omega))) (fun _ => ?_)
      refine V_ldc2 dX5_promiseDigest_12 q1670 ?_
      refine V_lload dX5_promiseDigest_15 rfl ?_
      refine V_lmul dX5_promiseDigest_17 ?_
      refine V_aload_n dX5_promiseDigest_18 rfl ?_
      refine V_iload_n dX5_promiseDigest_19 rfl ?_
      refine V_iload dX5_promiseDigest_20 rfl ?_
      refine Vm_callIF (m_promiseOf l _ p (nI i) hp) dX5_promiseDigest_22 (lw_V q1367 q1369 qs52 q103 q1370) hv_X5_promiseOf (by decide) rfl (Nat.le_of_ble_eq_true rfl) ?_
      refine V_i2l dX5_promiseDigest_25 rfl ?_
      refine V_ladd dX5_promiseDigest_26 ?_
      refine V_lstore dX5_promiseDigest_27 rfl (Nat.le_of_ble_eq_true rfl) (Nat.le_of_ble_eq_true rfl) ?_
      refine V_iinc dX5_promiseDigest_29 rfl (iinc_1 _) rfl (Nat.le_of_ble_eq_true rfl) ?_
      refine V_goto (tgt := 6) dX5_promiseDigest_32 (by decide) ?_
      exact ih (i + 1) _ (by omega) hR
  refine V_lload_n dX5_promiseDigest_0 rfl ?_
  refine V_lstore dX5_promiseDigest_1 rfl (Nat.le_of_ble_eq_true rfl) (Nat.le_of_ble_eq_true rfl) ?_
  refine V_iconst dX5_promiseDigest_3 li_0 ?_
  refine V_istore dX5_promiseDigest_4 rfl (Nat.le_of_ble_eq_true rfl) (Nat.le_of_ble_eq_true rfl) ?_
  exact L6 4 0 h (by omega) rfl
def cdK (d k : Nat) : Nat → Nat → Int64 → xSt → Int64 × xSt
  | 0, _, h, S => (h, S)
  | j + 1, i, h, S => cdK d k j (i + 1) (mx h (coatV (RT S) d k (nI i))) (RT S)
theorem cdK_s (d k j i : Nat) (h : Int64) (S : xSt) : cdK d k (j + 1) i h S = cdK d k j (i + 1) (mx h (coatV (RT S) d k (nI i))) (RT S) := rfl
def cdF (d k : Nat) (h : Int64) (S : xSt) : Int64 × xSt := cdK d k 3 0 h S
theorem MI_cdK (d k : Nat) : ∀ j i h S, MI S → MI (cdK d k j i h S).2
  | 0, _, _, _, h => h
  | j + 1, i, h, S, hS => by rw [cdK_s]; exact MI_cdK d k j _ _ _ (MI_RT hS)
theorem MI_cdF {S : xSt} (d k : Nat) (h : Int64) (hS : MI S) : MI (cdF d k h S).2 := MI_cdK d k 3 0 h S hS

set_option maxHeartbeats 4000000 in
theorem m_coatDigest (l : Launch) (S : xSt) (h : Int64) (d k : Nat) (hd : d < 24) (hk : k < 8) (hS : MI S) : Cm l yX5_coatDigest cX5_coatDigest 8 (some .long) 9 [.long h, .int (nI d), .int (nI k)] S (fun r S' => ∃ x, r = some (.long x) ∧ x = (cdF d k h S).1 ∧ S' = (cdF d k h S).2) := by
  refine Cm_start (ls := [some (.ref 1000), some (.long h), none, some (.int (nI d)), some (.int (nI k)), none, none, none]) (by decide) rfl (Nat.le_of_ble_eq_true rfl) ?_
  intro Q hQ
  have L6 : ∀ (j : Nat) (i : Nat) (g : Int64) (S1 : xSt) (hM : MI S1) (hj : i + j = 3) (hR : cdK d k j i g S1 = cdF d k h S), V l (yX5_coatDigest.cls, cX5_coatDigest, 8, (some .long), [], yX5_coatDigest.name) (rmD 9 0 0, xF0, Q, xX0) 6 [some (.ref 1000), some (.long h), none, some (.int (nI d)), some (.int (nI k)), some (.long g), none, some (.int (nI i))] [] (mW S1) 0 0 := by
    intro j
    induction j with
    | zero =>
      intro i g S1 hM hj hR
      refine V_iload dX5_coatDigest_6 rfl ?_
      refine V_iconst dX5_coatDigest_8 li_3 ?_
      refine V_icmp_ge (tgt := 37) dX5_coatDigest_9 (by decide) (fun _ => ?_) (fun c9 => absurd (nI_le (by omega) (by omega)) c9)
      refine V_lload dX5_coatDigest_37 rfl ?_
      exact V_lreturn dX5_coatDigest_39 rfl (hQ _ _ ⟨_, rfl, ⟨by rw [← hR]; rfl, by rw [← hR]; rfl⟩⟩)
    | succ j ih =>
      intro i g S1 hM hj hR
      refine V_iload dX5_coatDigest_6 rfl ?_
      refine V_iconst dX5_coatDigest_8 li_3 ?_
      refine V_icmp_ge (tgt := 37) dX5_coatDigest_9 (by decide) (fun c9 => absurd c9 (nI_ge (by omega) (by omega))) (fun _ => ?_)
      refine V_ldc2 dX5_coatDigest_12 q1670 ?_
      refine V_lload dX5_coatDigest_15 rfl ?_
      refine V_lmul dX5_coatDigest_17 ?_
      refine V_aload_n dX5_coatDigest_18 rfl ?_
      refine V_iload_n dX5_coatDigest_19 rfl ?_
      refine V_iload dX5_coatDigest_20 rfl ?_
      refine V_iload dX5_coatDigest_22 rfl ?_
      refine Vm_callIF (m_coatOf l _ d k (nI i) hd hk hM) dX5_coatDigest_24 (lw_V q1409 q1411 qs54 q103 q1412) hv_X5_coatOf (by decide) rfl (Nat.le_of_ble_eq_true rfl) ?_
      refine V_i2l dX5_coatDigest_27 rfl ?_
      refine V_ladd dX5_coatDigest_28 ?_
      refine V_lstore dX5_coatDigest_29 rfl (Nat.le_of_ble_eq_true rfl) (Nat.le_of_ble_eq_true rfl) ?_
      refine V_iinc dX5_coatDigest_31 rfl (iinc_1 _) rfl (Nat.le_of_ble_eq_true rfl) ?_
      refine V_goto (tgt := 6) dX5_coatDigest_34 (by decide) ?_
      exact ih (i + 1) _ _ (MI_RT hM) (by omega) (by rw [← hR, cdK_s]; rfl)
  refine V_lload_n dX5_coatDigest_0 rfl ?_
  refine V_lstore dX5_coatDigest_1 rfl (Nat.le_of_ble_eq_true rfl) (Nat.le_of_ble_eq_true rfl) ?_
  refine V_iconst dX5_coatDigest_3 li_0 ?_
  refine V_istore dX5_coatDigest_4 rfl (Nat.le_of_ble_eq_true rfl) (Nat.le_of_ble_eq_true rfl) ?_
  exact L6 3 0 h S hS (by omega) rfl
def psF9 (k : Nat) (h : Int64) (S : xSt) : Int64 × xSt := ((31 * h + (wordF 5 k 14 (nI 1) (asToldF S)).1), (wordF 5 k 14 (nI 1) (asToldF S)).2)
def psF8 (k : Nat) (h : Int64) (S : xSt) : Int64 × xSt := psF9 k (31 * h + (wordF 5 k 14 (nI 0) (asToldF S)).1) (wordF 5 k 14 (nI 0) (asToldF S)).2
def psF7 (k : Nat) (h : Int64) (S : xSt) : Int64 × xSt := psF8 k (mx h (askF k (asToldF S)).1) (askF k (asToldF S)).2
def psF6 (k : Nat) (h : Int64) (S : xSt) : Int64 × xSt := psF7 k (mx h (sortsF k (asToldF S)).1) (sortsF k (asToldF S)).2
def psF5 (k : Nat) (h : Int64) (S : xSt) : Int64 × xSt := psF6 k (mx h (sizesF k (asToldF S)).1) (sizesF k (asToldF S)).2
def psF4 (k : Nat) (h : Int64) (S : xSt) : Int64 × xSt := psF5 k (mx h (swearF k 14 (asToldF S)).1) (swearF k 14 (asToldF S)).2
def psF3 (k : Nat) (h : Int64) (S : xSt) : Int64 × xSt := psF4 k (cdF 23 k h S).1 (cdF 23 k h S).2
def psF2 (k : Nat) (h : Int64) (S : xSt) : Int64 × xSt := psF3 k (cdF 14 k h S).1 (cdF 14 k h S).2
def psF1 (k : Nat) (h : Int64) (S : xSt) : Int64 × xSt := psF2 k (cdF 6 k h S).1 (cdF 6 k h S).2
def psF0 (k : Nat) (h : Int64) (S : xSt) : Int64 × xSt := psF1 k (cdF 0 k h S).1 (cdF 0 k h S).2
def psF (k : Nat) (h : Int64) (S : xSt) : Int64 × xSt := psF0 k (mx (mx h (personV S k (nI 0))) (personV S k (nI 1))) S
set_option maxHeartbeats 4000000 in
theorem m_personDigest (l : Launch) (S : xSt) (h : Int64) (k : Nat) (hk : k < 8) (hS : MI S) : Cm l yX5_personDigest cX5_personDigest 6 (some .long) 10 [.long h, .int (nI k)] S (fun r S' => ∃ x, r = some (.long x) ∧ x = (psF k h S).1 ∧ S' = (psF k h S).2) := by
  refine Cm_start (ls := [some (.ref 1000), some (.long h), none, some (.int (nI k)), none, none]) (by decide) rfl (Nat.le_of_ble_eq_true rfl) ?_
  intro Q hQ
  unfold psF at hQ
  unfold psF0 at hQ
  have c0 := m_coatDigest l S (mx (mx h (personV S k (nI 0))) (personV S k (nI 1))) 0 k (by omega) hk hS
  have hM0 := MI_cdF 0 k (mx (mx h (personV S k (nI 0))) (personV S k (nI 1))) hS
  generalize cdF 0 k (mx (mx h (personV S k (nI 0))) (personV S k (nI 1))) S = G at hQ c0 hM0
  obtain ⟨x0, S0⟩ := G
  dsimp only at hQ c0 hM0
  unfold psF1 at hQ
  have c1 := m_coatDigest l S0 x0 6 k (by omega) hk hM0
  have hM1 := MI_cdF 6 k x0 hM0
  generalize cdF 6 k x0 S0 = G at hQ c1 hM1
  obtain ⟨x1, S1⟩ := G
  dsimp only at hQ c1 hM1
  unfold psF2 at hQ
  have c2 := m_coatDigest l S1 x1 14 k (by omega) hk hM1
  have hM2 := MI_cdF 14 k x1 hM1
  generalize cdF 14 k x1 S1 = G at hQ c2 hM2
  obtain ⟨x2, S2⟩ := G
  dsimp only at hQ c2 hM2
  unfold psF3 at hQ
  have c3 := m_coatDigest l S2 x2 23 k (by omega) hk hM2
  have hM3 := MI_cdF 23 k x2 hM2
  generalize cdF 23 k x2 S2 = G at hQ c3 hM3
  obtain ⟨x3, S3⟩ := G
  dsimp only at hQ c3 hM3
  unfold psF4 at hQ
  have c4 := m_swearOf l S3 k 14 hk (by omega) hM3
  have hM4 := (DV_sw (k := k) (day := 14) hM3 hk).1
  generalize swearF k 14 (asToldF S3) = G at hQ c4 hM4
  obtain ⟨x4, S4⟩ := G
  dsimp only at hQ c4 hM4
  unfold psF5 at hQ
  have c5 := m_sizesBy l S4 k hk hM4
  have hM5 := (DV_sz (k := k) hM4).1
  generalize sizesF k (asToldF S4) = G at hQ c5 hM5
  obtain ⟨x5, S5⟩ := G
  dsimp only at hQ c5 hM5
  unfold psF6 at hQ
  have c6 := m_sortsBy l S5 k hk hM5
  have hM6 := (DV_so (k := k) hM5).1
  generalize sortsF k (asToldF S5) = G at hQ c6 hM6
  obtain ⟨x6, S6⟩ := G
  dsimp only at hQ c6 hM6
  unfold psF7 at hQ
  have c7 := m_askOf l S6 k hk hM6
  have hM7 := (DV_ak (k := k) hM6).1
  generalize askF k (asToldF S6) = G at hQ c7 hM7
  obtain ⟨x7, S7⟩ := G
  dsimp only at hQ c7 hM7
  unfold psF8 at hQ
  have c8 := m_wordOf l S7 5 k 14 (nI 0) (by omega) hk (by omega) hM7
  have hM8 := (DV_wo (c := 5) (k := k) (day := 14) (what := nI 0) hM7).1
  generalize wordF 5 k 14 (nI 0) (asToldF S7) = G at hQ c8 hM8
  obtain ⟨x8, S8⟩ := G
  dsimp only at hQ c8 hM8
  unfold psF9 at hQ
  have c9 := m_wordOf l S8 5 k 14 (nI 1) (by omega) hk (by omega) hM8
  have hM9 := (DV_wo (c := 5) (k := k) (day := 14) (what := nI 1) hM8).1
  generalize wordF 5 k 14 (nI 1) (asToldF S8) = G at hQ c9 hM9
  obtain ⟨x9, S9⟩ := G
  dsimp only at hQ c9 hM9
  refine V_ldc2 dX5_personDigest_0 q1670 ?_
  refine V_lload_n dX5_personDigest_3 rfl ?_
  refine V_lmul dX5_personDigest_4 ?_
  refine V_aload_n dX5_personDigest_5 rfl ?_
  refine V_iload_n dX5_personDigest_6 rfl ?_
  refine V_iconst dX5_personDigest_7 li_0 ?_
  refine Vm_callIF (m_personOf l _ k (nI 0) hk) dX5_personDigest_8 (lw_V q1355 q1357 qs50 q103 q1358) hv_X5_personOf (by decide) rfl (Nat.le_of_ble_eq_true rfl) ?_
  refine V_i2l dX5_personDigest_11 rfl ?_
  refine V_ladd dX5_personDigest_12 ?_
  refine V_lstore dX5_personDigest_13 rfl (Nat.le_of_ble_eq_true rfl) (Nat.le_of_ble_eq_true rfl) ?_
  show V l _ _ _ [_, _, _, _, _, _] _ _ _ _
  refine V_ldc2 dX5_personDigest_15 q1670 ?_
  refine V_lload dX5_personDigest_18 rfl ?_
  refine V_lmul dX5_personDigest_20 ?_
  refine V_aload_n dX5_personDigest_21 rfl ?_
  refine V_iload_n dX5_personDigest_22 rfl ?_
  refine V_iconst dX5_personDigest_23 li_1 ?_
  refine Vm_callIF (m_personOf l _ k (nI 1) hk) dX5_personDigest_24 (lw_V q1355 q1357 qs50 q103 q1358) hv_X5_personOf (by decide) rfl (Nat.le_of_ble_eq_true rfl) ?_
  refine V_i2l dX5_personDigest_27 rfl ?_
  refine V_ladd dX5_personDigest_28 ?_
  refine V_lstore dX5_personDigest_29 rfl (Nat.le_of_ble_eq_true rfl) (Nat.le_of_ble_eq_true rfl) ?_
  show V l _ _ _ [_, _, _, _, _, _] _ _ _ _
  refine V_aload_n dX5_personDigest_31 rfl ?_
  refine V_lload dX5_personDigest_32 rfl ?_
  refine V_iconst dX5_personDigest_34 li_0 ?_
  refine V_iload_n dX5_personDigest_35 rfl ?_
  refine Vm_callLF c0 dX5_personDigest_36 (lw_V q1680 q1682 qs93 q103 q1683) hv_X5_coatDigest (by decide) rfl (Nat.le_of_ble_eq_true rfl) ?_
  refine V_lstore dX5_personDigest_39 rfl (Nat.le_of_ble_eq_true rfl) (Nat.le_of_ble_eq_true rfl) ?_
  show V l _ _ _ [_, _, _, _, _, _] _ _ _ _
  refine V_aload_n dX5_personDigest_41 rfl ?_
  refine V_lload dX5_personDigest_42 rfl ?_
  refine V_bipush dX5_personDigest_44 lb_6 ?_
  refine V_iload_n dX5_personDigest_46 rfl ?_
  refine Vm_callLF c1 dX5_personDigest_47 (lw_V q1680 q1682 qs93 q103 q1683) hv_X5_coatDigest (by decide) rfl (Nat.le_of_ble_eq_true rfl) ?_
  refine V_lstore dX5_personDigest_50 rfl (Nat.le_of_ble_eq_true rfl) (Nat.le_of_ble_eq_true rfl) ?_
  show V l _ _ _ [_, _, _, _, _, _] _ _ _ _
  refine V_aload_n dX5_personDigest_52 rfl ?_
  refine V_lload dX5_personDigest_53 rfl ?_
  refine V_bipush dX5_personDigest_55 lb_14 ?_
  refine V_iload_n dX5_personDigest_57 rfl ?_
  refine Vm_callLF c2 dX5_personDigest_58 (lw_V q1680 q1682 qs93 q103 q1683) hv_X5_coatDigest (by decide) rfl (Nat.le_of_ble_eq_true rfl) ?_
  refine V_lstore dX5_personDigest_61 rfl (Nat.le_of_ble_eq_true rfl) (Nat.le_of_ble_eq_true rfl) ?_
  show V l _ _ _ [_, _, _, _, _, _] _ _ _ _
  refine V_aload_n dX5_personDigest_63 rfl ?_
  refine V_lload dX5_personDigest_64 rfl ?_
  refine V_bipush dX5_personDigest_66 lb_23 ?_
  refine V_iload_n dX5_personDigest_68 rfl ?_
  refine Vm_callLF c3 dX5_personDigest_69 (lw_V q1680 q1682 qs93 q103 q1683) hv_X5_coatDigest (by decide) rfl (Nat.le_of_ble_eq_true rfl) ?_
  refine V_lstore dX5_personDigest_72 rfl (Nat.le_of_ble_eq_true rfl) (Nat.le_of_ble_eq_true rfl) ?_
  show V l _ _ _ [_, _, _, _, _, _] _ _ _ _
  refine V_ldc2 dX5_personDigest_74 q1670 ?_
  refine V_lload dX5_personDigest_77 rfl ?_
  refine V_lmul dX5_personDigest_79 ?_
  refine V_aload_n dX5_personDigest_80 rfl ?_
  refine V_iload_n dX5_personDigest_81 rfl ?_
  refine V_bipush dX5_personDigest_82 lb_14 ?_
  refine Vm_callIF c4 dX5_personDigest_84 (lw_V q1524 q1526 qs75 q103 q1527) hv_X5_swearOf (by decide) rfl (Nat.le_of_ble_eq_true rfl) ?_
  refine V_i2l dX5_personDigest_87 rfl ?_
  refine V_ladd dX5_personDigest_88 ?_
  refine V_lstore dX5_personDigest_89 rfl (Nat.le_of_ble_eq_true rfl) (Nat.le_of_ble_eq_true rfl) ?_
  show V l _ _ _ [_, _, _, _, _, _] _ _ _ _
  refine V_ldc2 dX5_personDigest_91 q1670 ?_
  refine V_lload dX5_personDigest_94 rfl ?_
  refine V_lmul dX5_personDigest_96 ?_
  refine V_aload_n dX5_personDigest_97 rfl ?_
  refine V_iload_n dX5_personDigest_98 rfl ?_
  refine Vm_callIF c5 dX5_personDigest_99 (lw_V q1584 q1586 qs83 q103 q1587) hv_X5_sizesBy (by decide) rfl (Nat.le_of_ble_eq_true rfl) ?_
  refine V_i2l dX5_personDigest_102 rfl ?_
  refine V_ladd dX5_personDigest_103 ?_
  refine V_lstore dX5_personDigest_104 rfl (Nat.le_of_ble_eq_true rfl) (Nat.le_of_ble_eq_true rfl) ?_
  show V l _ _ _ [_, _, _, _, _, _] _ _ _ _
  refine V_ldc2 dX5_personDigest_106 q1670 ?_
  refine V_lload dX5_personDigest_109 rfl ?_
  refine V_lmul dX5_personDigest_111 ?_
  refine V_aload_n dX5_personDigest_112 rfl ?_
  refine V_iload_n dX5_personDigest_113 rfl ?_
  refine Vm_callIF c6 dX5_personDigest_114 (lw_V q1588 q1590 qs84 q103 q1591) hv_X5_sortsBy (by decide) rfl (Nat.le_of_ble_eq_true rfl) ?_
  refine V_i2l dX5_personDigest_117 rfl ?_
  refine V_ladd dX5_personDigest_118 ?_
  refine V_lstore dX5_personDigest_119 rfl (Nat.le_of_ble_eq_true rfl) (Nat.le_of_ble_eq_true rfl) ?_
  show V l _ _ _ [_, _, _, _, _, _] _ _ _ _
  refine V_ldc2 dX5_personDigest_121 q1670 ?_
  refine V_lload dX5_personDigest_124 rfl ?_
  refine V_lmul dX5_personDigest_126 ?_
  refine V_aload_n dX5_personDigest_127 rfl ?_
  refine V_iload_n dX5_personDigest_128 rfl ?_
  refine Vm_callIF c7 dX5_personDigest_129 (lw_V q1596 q1598 qs85 q103 q1599) hv_X5_askOf (by decide) rfl (Nat.le_of_ble_eq_true rfl) ?_
  refine V_i2l dX5_personDigest_132 rfl ?_
  refine V_ladd dX5_personDigest_133 ?_
  refine V_lstore dX5_personDigest_134 rfl (Nat.le_of_ble_eq_true rfl) (Nat.le_of_ble_eq_true rfl) ?_
  show V l _ _ _ [_, _, _, _, _, _] _ _ _ _
  refine V_ldc2 dX5_personDigest_136 q1670 ?_
  refine V_lload dX5_personDigest_139 rfl ?_
  refine V_lmul dX5_personDigest_141 ?_
  refine V_aload_n dX5_personDigest_142 rfl ?_
  refine V_iconst dX5_personDigest_143 li_5 ?_
  refine V_iload_n dX5_personDigest_144 rfl ?_
  refine V_bipush dX5_personDigest_145 lb_14 ?_
  refine V_iconst dX5_personDigest_147 li_0 ?_
  refine Vm_callLF c8 dX5_personDigest_148 (lw_V q1604 q1606 qs86 q103 q1607) hv_X5_wordOf (by decide) rfl (Nat.le_of_ble_eq_true rfl) ?_
  refine V_ladd dX5_personDigest_151 ?_
  refine V_lstore dX5_personDigest_152 rfl (Nat.le_of_ble_eq_true rfl) (Nat.le_of_ble_eq_true rfl) ?_
  show V l _ _ _ [_, _, _, _, _, _] _ _ _ _
  refine V_ldc2 dX5_personDigest_154 q1670 ?_
  refine V_lload dX5_personDigest_157 rfl ?_
  refine V_lmul dX5_personDigest_159 ?_
  refine V_aload_n dX5_personDigest_160 rfl ?_
  refine V_iconst dX5_personDigest_161 li_5 ?_
  refine V_iload_n dX5_personDigest_162 rfl ?_
  refine V_bipush dX5_personDigest_163 lb_14 ?_
  refine V_iconst dX5_personDigest_165 li_1 ?_
  refine Vm_callLF c9 dX5_personDigest_166 (lw_V q1604 q1606 qs86 q103 q1607) hv_X5_wordOf (by decide) rfl (Nat.le_of_ble_eq_true rfl) ?_
  refine V_ladd dX5_personDigest_169 ?_
  exact V_lreturn dX5_personDigest_170 rfl (hQ _ _ ⟨_, rfl, ⟨rfl, rfl⟩⟩)
