/-! PromiseTailor's side: a day passes -/
set_option maxRecDepth 100000
/-- the numbers of region src laid into a row -/
def cpX (reg mul N src d : Nat) (X : xSt) : xSt := fun r q => if r = reg ∧ mul * d ≤ q ∧ q < mul * d + N then X src (q - mul * d) else X r q
theorem cpX_o {reg mul N src d : Nat} {X : xSt} {r : Nat} (h : r ≠ reg) : cpX reg mul N src d X r = X r := by
  funext q
  exact if_neg (fun z => h z.1)
theorem cpX_i {reg mul N src d : Nat} {X : xSt} {k : Nat} (h : k < N) : cpX reg mul N src d X reg (mul * d + k) = X src k := by
  unfold cpX
  rw [if_pos ⟨rfl, by omega, by omega⟩, Nat.add_sub_cancel_left]
theorem cpX_e {reg mul N src d e : Nat} {X : xSt} {k : Nat} (hN : N ≤ mul) (hk : k < mul) (h : e ≠ d) : cpX reg mul N src d X reg (mul * e + k) = X reg (mul * e + k) := by
  unfold cpX
  refine if_neg (fun z => ?_)
  rcases Nat.lt_or_gt_of_ne h with g | g
  · have : mul * (e + 1) ≤ mul * d := Nat.mul_le_mul_left mul g
    rw [Nat.mul_add] at this
    omega
  · have : mul * (d + 1) ≤ mul * e := Nat.mul_le_mul_left mul g
    rw [Nat.mul_add] at this
    omega
theorem cp_w30 {X : xSt} {d : Nat} (hd : d < 24) : upw (wX X) (384 + d) (.inl (.int, true, 8, va_cpy (cutI 8 (fun i => X 27 i)) (cutI 8 (fun i => X 30 (8 * d + i))) 0 0 8)) = wX (cpX 30 8 8 27 d X) := by
  refine wX_up ((wX_crow _ hd).trans (congrArg (fun z => some (Sum.inl (FieldType.int, true, 8, z))) ?_)) fun n hn => wX_dep fun j i hdp => ?_
  · funext i
    by_cases h : i < 8
    · rw [pk_cpy_in (Nat.zero_le i) (by omega), cutI_at h, cutI_at (show 0 + (i - 0) < 8 by omega), cpX_i h, show 0 + (i - 0) = i by omega]
    · rw [pk_cpy_out (.inr (by omega))]
      unfold cutI
      rw [if_neg h, if_neg h]
  · by_cases e : j = 30
    · subst e
      rw [dep_30] at hdp
      unfold cpX
      exact if_neg (fun z => by omega)
    · exact congrFun (cpX_o e) i
theorem cp_w31 {X : xSt} {d : Nat} (hd : d < 24) : upw (wX X) (448 + d) (.inl (.int, true, 8, va_cpy (cutI 8 (fun i => X 28 i)) (cutI 8 (fun i => X 31 (8 * d + i))) 0 0 8)) = wX (cpX 31 8 8 28 d X) := by
  refine wX_up ((wX_trow _ hd).trans (congrArg (fun z => some (Sum.inl (FieldType.int, true, 8, z))) ?_)) fun n hn => wX_dep fun j i hdp => ?_
  · funext i
    by_cases h : i < 8
    · rw [pk_cpy_in (Nat.zero_le i) (by omega), cutI_at h, cutI_at (show 0 + (i - 0) < 8 by omega), cpX_i h, show 0 + (i - 0) = i by omega]
    · rw [pk_cpy_out (.inr (by omega))]
      unfold cutI
      rw [if_neg h, if_neg h]
  · by_cases e : j = 31
    · subst e
      rw [dep_31] at hdp
      unfold cpX
      exact if_neg (fun z => by omega)
    · exact congrFun (cpX_o e) i
theorem cp_w32 {X : xSt} {d : Nat} (hd : d < 24) : upw (wX X) (512 + d) (.inl (.int, true, 10, va_cpy (cutI 10 (fun i => X 29 i)) (cutI 10 (fun i => X 32 (12 * d + i))) 0 0 10)) = wX (cpX 32 12 10 29 d X) := by
  refine wX_up ((wX_srow _ hd).trans (congrArg (fun z => some (Sum.inl (FieldType.int, true, 10, z))) ?_)) fun n hn => wX_dep fun j i hdp => ?_
  · funext i
    by_cases h : i < 10
    · rw [pk_cpy_in (Nat.zero_le i) (by omega), cutI_at h, cutI_at (show 0 + (i - 0) < 10 by omega), cpX_i h, show 0 + (i - 0) = i by omega]
    · rw [pk_cpy_out (.inr (by omega))]
      unfold cutI
      rw [if_neg h, if_neg h]
  · by_cases e : j = 32
    · subst e
      rw [dep_32] at hdp
      unfold cpX
      exact if_neg (fun z => by omega)
    · exact congrFun (cpX_o e) i
section R6
variable {l : Launch} {M : xM} {Sp : xS} {pc : Nat} {ls : List (Option Value)} {st : List Value} {X : xSt} {k n : Nat}
theorem V_cp30 {index d : Nat} (hd : d < 24) (hdc : decode M.2.1 pc = .ok (.invokestatic index, 3)) (hlk : Cond.methodLink M.1 index arraycopyName ∈ lw_all) (h1 : Cond.native arraycopyName ∈ lw_all) (h2 : Cond.static arraycopyName ∈ lw_all) (h3 : Cond.initialized "java/lang/System" ∈ lw_all)
    (hR : 1 ≤ Sp.1.frames ∧ 8 + (nativeFrameWords "java/lang/System" "arraycopy" 5 + 11) ≤ Sp.1.locals) (hcat : (st.map fun v => v.category).sum ≤ 8) (kk : V l M Sp (pc + 3) ls st (wX (cpX 30 8 8 27 d X)) k n) : V l M Sp pc ls (.int (nI 8) :: .int (nI 0) :: .ref (384 + d) :: .int (nI 0) :: .ref 320 :: st) (wX X) k n := by
  refine V_copyP (ty := .int) rfl hdc hlk h1 h2 h3 (wX_coats X) (wX_crow X hd) (nI_pos (by decide)) (nI_pos (by decide)) (nI_pos (by decide)) (by rw [nI_clamp (by decide), nI_clamp (by decide)]; decide) (by rw [nI_clamp (by decide), nI_clamp (by decide)]; decide) (fun i hi => ?_) hR hcat ?_
  · rw [nI_clamp (by decide)] at hi
    rw [nI_clamp (by decide)]
    exact ⟨_, cutI_at (by omega), rfl⟩
  · rw [nI_clamp (by decide), nI_clamp (by decide), cp_w30 hd]
    exact kk
theorem V_cp31 {index d : Nat} (hd : d < 24) (hdc : decode M.2.1 pc = .ok (.invokestatic index, 3)) (hlk : Cond.methodLink M.1 index arraycopyName ∈ lw_all) (h1 : Cond.native arraycopyName ∈ lw_all) (h2 : Cond.static arraycopyName ∈ lw_all) (h3 : Cond.initialized "java/lang/System" ∈ lw_all)
    (hR : 1 ≤ Sp.1.frames ∧ 8 + (nativeFrameWords "java/lang/System" "arraycopy" 5 + 11) ≤ Sp.1.locals) (hcat : (st.map fun v => v.category).sum ≤ 8) (kk : V l M Sp (pc + 3) ls st (wX (cpX 31 8 8 28 d X)) k n) : V l M Sp pc ls (.int (nI 8) :: .int (nI 0) :: .ref (448 + d) :: .int (nI 0) :: .ref 321 :: st) (wX X) k n := by
  refine V_copyP (ty := .int) rfl hdc hlk h1 h2 h3 (wX_torn X) (wX_trow X hd) (nI_pos (by decide)) (nI_pos (by decide)) (nI_pos (by decide)) (by rw [nI_clamp (by decide), nI_clamp (by decide)]; decide) (by rw [nI_clamp (by decide), nI_clamp (by decide)]; decide) (fun i hi => ?_) hR hcat ?_
  · rw [nI_clamp (by decide)] at hi
    rw [nI_clamp (by decide)]
    exact ⟨_, cutI_at (by omega), rfl⟩
  · rw [nI_clamp (by decide), nI_clamp (by decide), cp_w31 hd]
    exact kk
theorem V_cp32 {index d : Nat} (hd : d < 24) (hdc : decode M.2.1 pc = .ok (.invokestatic index, 3)) (hlk : Cond.methodLink M.1 index arraycopyName ∈ lw_all) (h1 : Cond.native arraycopyName ∈ lw_all) (h2 : Cond.static arraycopyName ∈ lw_all) (h3 : Cond.initialized "java/lang/System" ∈ lw_all)
    (hR : 1 ≤ Sp.1.frames ∧ 8 + (nativeFrameWords "java/lang/System" "arraycopy" 5 + 11) ≤ Sp.1.locals) (hcat : (st.map fun v => v.category).sum ≤ 8) (kk : V l M Sp (pc + 3) ls st (wX (cpX 32 12 10 29 d X)) k n) : V l M Sp pc ls (.int (nI 10) :: .int (nI 0) :: .ref (512 + d) :: .int (nI 0) :: .ref 322 :: st) (wX X) k n := by
  refine V_copyP (ty := .int) rfl hdc hlk h1 h2 h3 (wX_states X) (wX_srow X hd) (nI_pos (by decide)) (nI_pos (by decide)) (nI_pos (by decide)) (by rw [nI_clamp (by decide), nI_clamp (by decide)]; decide) (by rw [nI_clamp (by decide), nI_clamp (by decide)]; decide) (fun i hi => ?_) hR hcat ?_
  · rw [nI_clamp (by decide)] at hi
    rw [nI_clamp (by decide)]
    exact ⟨_, cutI_at (by omega), rfl⟩
  · rw [nI_clamp (by decide), nI_clamp (by decide), cp_w32 hd]
    exact kk
end R6
/-- the model's records of a day -/
theorem recsF_v (d : Nat) : ∀ (j i : Nat) (S : xSt), (∀ r, r ≠ 30 → r ≠ 31 → itF (rcF d) j i S r = S r) ∧ ∀ q, (itF (rcF d) j i S 30 q = if 8 * d + i ≤ q ∧ q < 8 * d + i + j then S 27 (q - 8 * d) else S 30 q) ∧ (itF (rcF d) j i S 31 q = if 8 * d + i ≤ q ∧ q < 8 * d + i + j then S 28 (q - 8 * d) else S 31 q)
  | 0, i, S => ⟨fun _ _ _ => rfl, fun q => ⟨(if_neg (by omega)).symm, (if_neg (by omega)).symm⟩⟩
  | j + 1, i, S => by
    obtain ⟨h1, h2⟩ := recsF_v d j (i + 1) (rcF d i S)
    have e : ∀ r, r ≠ 30 → r ≠ 31 → rcF d i S r = S r := fun r a b => by unfold rcF; rw [mwr_R _ _ _ b, mwr_R _ _ _ a]
    refine ⟨fun r a b => (h1 r a b).trans (e r a b), fun q => ?_⟩
    have h := h2 q
    refine ⟨h.1.trans ?_, h.2.trans ?_⟩
    · rw [e 27 (by decide) (by decide)]
      by_cases g : 8 * d + (i + 1) ≤ q ∧ q < 8 * d + (i + 1) + j
      · rw [if_pos g, if_pos (by omega)]
      · rw [if_neg g]
        unfold rcF
        rw [mwr_r _ _ _ _ (by decide)]
        by_cases z : q = 8 * d + i
        · rw [z, mwr_s, if_pos (by omega), Nat.add_sub_cancel_left]
        · rw [mwr_q _ _ _ _ z, if_neg (by omega)]
    · rw [e 28 (by decide) (by decide)]
      by_cases g : 8 * d + (i + 1) ≤ q ∧ q < 8 * d + (i + 1) + j
      · rw [if_pos g, if_pos (by omega)]
      · rw [if_neg g]
        unfold rcF
        by_cases z : q = 8 * d + i
        · rw [z, mwr_s, if_pos (by omega), Nat.add_sub_cancel_left]
        · rw [mwr_q _ _ _ _ z, if_neg (by omega), mwr_r _ _ _ _ (by decide)]
theorem ressF_v (d : Nat) : ∀ (j i : Nat) (S : xSt), (∀ r, r ≠ 32 → itF (rsF d) j i S r = S r) ∧ ∀ q, itF (rsF d) j i S 32 q = if 12 * d + i ≤ q ∧ q < 12 * d + i + j then S 29 (q - 12 * d) else S 32 q
  | 0, i, S => ⟨fun _ _ => rfl, fun q => (if_neg (by omega)).symm⟩
  | j + 1, i, S => by
    obtain ⟨h1, h2⟩ := ressF_v d j (i + 1) (rsF d i S)
    have e : ∀ r, r ≠ 32 → rsF d i S r = S r := fun r a => mwr_R _ _ _ a
    refine ⟨fun r a => (h1 r a).trans (e r a), fun q => (h2 q).trans ?_⟩
    rw [e 29 (by decide)]
    by_cases g : 12 * d + (i + 1) ≤ q ∧ q < 12 * d + (i + 1) + j
    · rw [if_pos g, if_pos (by omega)]
    · rw [if_neg g]
      unfold rsF
      by_cases z : q = 12 * d + i
      · rw [z, mwr_s, if_pos (by omega), Nat.add_sub_cancel_left]
      · rw [mwr_q _ _ _ _ z, if_neg (by omega)]
/-- PromiseTailor's numbers when day d is told -/
def cpD (d : Nat) (X : xSt) : xSt := mwr (cpX 32 12 10 29 d (cpX 31 8 8 28 d (cpX 30 8 8 27 d X))) 55 0 (nI (d + 1))
theorem cpD_o {d : Nat} {X : xSt} {r : Nat} (h : r ≠ 30 ∧ r ≠ 31 ∧ r ≠ 32 ∧ r ≠ 55) : cpD d X r = X r := by
  unfold cpD
  rw [mwr_R _ _ _ h.2.2.2, cpX_o h.2.2.1, cpX_o h.2.1, cpX_o h.1]
theorem wX_55 (X : xSt) (v : Int32) : wX (mwr X 55 0 v) = wX X := funext fun n => wX_mwr (fun h => h)
theorem RD_cp {T X : xSt} {d : Nat} (hd : d < 24) (h55 : X 55 0 = nI d) (h21 : vN (T 5 0) ≤ vN (T 21 0)) (h22 : vN (T 21 0) ≤ 11) (h : RD T X) : RD (ressF d (recsF d T)) (cpD d X) := by
  have b2 := (bd_v h.1.2.2.2.2.1.1 (by decide)).2
  have b5 := (bd_v h.1.2.2.2.2.1.2.1 (by decide)).2
  have hT : fr T (ressF d (recsF d T)) := fr_tr (fr_it (rcF_fr d) _ _ _) (fr_it (rsF_fr d) _ _ _)
  have hX : frx X (cpD d X) := fun r hr => cpD_o (by omega)
  obtain ⟨r1, r2⟩ := recsF_v d (vN (T 2 0)) 0 T
  obtain ⟨s1, s2⟩ := ressF_v d (vN (recsF d T 21 0)) 0 (recsF d T)
  have e21 : recsF d T 21 = T 21 := r1 21 (by decide) (by decide)
  have q27 : ressF d (recsF d T) 27 = T 27 := (s1 27 (by decide)).trans (r1 27 (by decide) (by decide))
  have q28 : ressF d (recsF d T) 28 = T 28 := (s1 28 (by decide)).trans (r1 28 (by decide) (by decide))
  have q29 : ressF d (recsF d T) 29 = T 29 := (s1 29 (by decide)).trans (r1 29 (by decide) (by decide))
  have q6 : ressF d (recsF d T) 6 = T 6 := hT 6 (by omega)
  have x27 : cpD d X 27 = X 27 := cpD_o (by decide)
  have x28 : cpD d X 28 = X 28 := cpD_o (by decide)
  have x29 : cpD d X 29 = X 29 := cpD_o (by decide)
  have t30 : ∀ q, ressF d (recsF d T) 30 q = recsF d T 30 q := fun q => congrFun (s1 30 (by decide)) q
  have t31 : ∀ q, ressF d (recsF d T) 31 q = recsF d T 31 q := fun q => congrFun (s1 31 (by decide)) q
  have x30 : ∀ q, cpD d X 30 q = cpX 30 8 8 27 d X 30 q := fun q => by unfold cpD; rw [mwr_r _ _ _ _ (by decide), cpX_o (by decide), cpX_o (by decide)]
  have x31 : ∀ q, cpD d X 31 q = cpX 31 8 8 28 d (cpX 30 8 8 27 d X) 31 q := fun q => by unfold cpD; rw [mwr_r _ _ _ _ (by decide), cpX_o (by decide)]
  have x32 : ∀ q, cpD d X 32 q = cpX 32 12 10 29 d (cpX 31 8 8 28 d (cpX 30 8 8 27 d X)) 32 q := fun q => by unfold cpD; rw [mwr_r _ _ _ _ (by decide)]
  refine ⟨XT_fr hT hX h.1, FRS_fr hX h.2.1, ?_⟩
  unfold DA wN
  rw [hT 2 (by omega), hT 5 (by omega), q27, q28, q29, q6, x27, x28, x29, show cpD d X 55 0 = nI (d + 1) from mwr_s _ _ _ _, vN_nI (by omega)]
  refine ⟨h.2.2.1, h.2.2.2.1, h.2.2.2.2.1, fun e he => ?_⟩
  by_cases z : e = d
  · subst z
    refine ⟨fun k hk => ⟨?_, ?_⟩, fun p hp => ?_⟩
    · rw [x30, t30, cpX_i (by omega), show recsF e T 30 (8 * e + k) = _ from (r2 (8 * e + k)).1, if_pos (by omega), Nat.add_sub_cancel_left]
      exact (h.2.2.1 k hk).1
    · rw [x31, t31, cpX_i (by omega), show recsF e T 31 (8 * e + k) = _ from (r2 (8 * e + k)).2, if_pos (by omega), Nat.add_sub_cancel_left, cpX_o (by decide)]
      exact (h.2.2.1 k hk).2.2
    · rw [x32, cpX_i (by omega), show ressF e (recsF e T) 32 (12 * e + p) = _ from s2 (12 * e + p), if_pos (by rw [e21]; omega), Nat.add_sub_cancel_left, cpX_o (by decide), cpX_o (by decide), show recsF e T 29 = T 29 from r1 29 (by decide) (by decide)]
      exact h.2.2.2.1 p hp
  · have hr := h.2.2.2.2.2 e (by rw [h55, vN_nI (by omega)]; omega)
    refine ⟨fun k hk => ⟨?_, ?_⟩, fun p hp => ?_⟩
    · rw [x30, t30, cpX_e (by decide) (by omega) z, show recsF d T 30 (8 * e + k) = _ from (r2 (8 * e + k)).1, if_neg (by omega)]
      exact (hr.1 k hk).1
    · rw [x31, t31, cpX_e (by decide) (by omega) z, show recsF d T 31 (8 * e + k) = _ from (r2 (8 * e + k)).2, if_neg (by omega), cpX_o (by decide)]
      exact (hr.1 k hk).2
    · rw [x32, cpX_e (by decide) (by omega) z, show ressF d (recsF d T) 32 (12 * e + p) = _ from s2 (12 * e + p), if_neg (by rw [e21]; omega), cpX_o (by decide), cpX_o (by decide), show recsF d T 32 = T 32 from r1 32 (by decide) (by decide)]
      exact hr.2 p hp
/-- a keeping's row -/
theorem ke_row {T X : xSt} (h : XT T X) {i : Nat} (hi : i < cnt X 2) : ∃ f, wX X (eln X 2 i) = some (.inl (.int, true, 2, cutI 2 f)) ∧ f 0 = kdX X i ∧ f 1 = koX X i := by
  have h8 : cnt X 2 ≤ 8 := h.1.1.2
  rcases h.2.2.1.2.2.2.2 with ⟨z, y⟩ | z
  · refine ⟨fun j => X (11 + j) i, ?_, ?_, ?_⟩
    · rw [show eln X 2 i = 1216 + i from if_neg (fun q => by rw [z] at q; exact absurd q.2 (by decide +kernel))]
      exact wX_ke X (by omega) (by omega)
    · unfold kdX; rw [z, if_neg (by decide +kernel)]
    · unfold koX; rw [z, if_neg (by decide +kernel)]
  · refine ⟨fun j => X 51 (2 * i + j), ?_, ?_, ?_⟩
    · rw [show eln X 2 i = 640 + i from if_pos ⟨rfl, z⟩]
      exact wX_spare X (by omega)
    · unfold kdX; rw [z, if_pos rfl] <;> rfl
    · unfold koX; rw [z, if_pos rfl]
theorem kpF_k (day : Int32) (i : Nat) (S : xSt) : kpF day i S = if S 23 i = day then (if isI (S 25 0) (nI i) then S else kqF (vN (S 24 i)) S) else S := rfl
theorem isI_0 {q : Nat} (h : q < 32) : ¬ isI (nI 0) (nI q) := by
  have : ∀ q, q < 32 → ¬ isI (nI 0) (nI q) := by decide +kernel
  exact this q h
