/-! texts: a part, the next -/
set_option maxRecDepth 100000
/-- the names that a reading of text t may make anew -/
def RF (t n : Nat) : Prop := n = 256 + t ∨ (1088 + 64 * t ≤ n ∧ n < 1152 + 64 * t) ∨ 1536 ≤ n
theorem RF_lo {t : Nat} (h : t < 2) : ∀ n, 900 ≤ n → n < 950 → ¬ RF t n := by
  intro n h1 h2 h
  unfold RF at h
  omega
theorem RF36 {t n : Nat} (h : F36 n) : RF t n := .inr (.inr h)
/-- the lists' sizes -/
def CB (X : xSt) : Prop := (∀ q, q < 6 → cnt X q ≤ 10) ∧ cnt X 2 ≤ 8
theorem tgt_hi {X : xSt} (h : CB X) {a : Nat} (ha : 1536 ≤ a) : ¬ tgt X a := by
  intro ht
  unfold tgt at ht
  rcases ht with ht | ⟨q, h1, h2, h3⟩ | ht | ⟨s, h1, h2, h3⟩ | ht | ⟨q, i, h1, h2, h3⟩ | ⟨i, h1, h2, h3⟩
  · omega
  · omega
  · omega
  · omega
  · omega
  · have := h.1 q h1
    omega
  · omega
theorem fr36_wX {X : xSt} (h : CB X) : fr36 (wX X) := ⟨wX_far X (by decide), fun n c hc => wX_nr h.2 (tgt_hi h (Nat.le_refl _)) hc, fun a ha => ⟨wX_far X (by omega), fun n c hc => wX_nr h.2 (tgt_hi h (by omega)) hc⟩⟩
/-- the name behind the last of list q is nobody's -/
theorem tgt_new {X : xSt} (h : CB X) {q n : Nat} (hq : q < 2) (hn : cnt X q ≤ n) (hn64 : n < 64) : ¬ tgt X (1088 + 64 * q + n) := by
  intro ht
  unfold tgt at ht
  rcases ht with ht | ⟨q, h1, h2, h3⟩ | ht | ⟨s, h1, h2, h3⟩ | ht | ⟨q', i, h1, h2, h3⟩ | ⟨i, h1, h2, h3⟩
  · omega
  · omega
  · omega
  · omega
  · omega
  · have := h.1 q' h1
    have e : q' = q := by omega
    subst e
    omega
  · omega
theorem tgt_da {X : xSt} (h : CB X) {q : Nat} (hq : q < 6) (h0 : X 50 q = 0) : ¬ tgt X (256 + q) := by
  intro ht
  unfold tgt at ht
  rcases ht with ht | ⟨q', h1, h2, h3⟩ | ht | ⟨s, h1, h2, h3⟩ | ht | ⟨q', i, h1, h2, h3⟩ | ⟨i, h1, h2, h3⟩
  · omega
  · have e : q' = q := by omega
    subst e
    exact h3 h0
  · omega
  · omega
  · omega
  · omega
  · omega
theorem wX_st0 {X : xSt} {n : Nat} (h : std X 0 = n) (hn : n < 64) {m : Nat} (hm : m ≠ 1088 + n) : wX (mwr X 54 0 (nI (n + 1))) m = wX X m := by
  have h2 : std (mwr X 54 0 (nI (n + 1))) 0 = n + 1 := by unfold std; rw [mwr_s]; exact vN_nI (by omega)
  by_cases hb : 1088 ≤ m ∧ m < 1152
  · obtain ⟨d, rfl⟩ : ∃ d, m = 1088 + d := ⟨m - 1088, by omega⟩
    by_cases e : d < n
    · rw [wX_per _ (by omega) (by omega), wX_per _ (by omega) (by omega)]
      rfl
    · rw [wX_per0 _ (by omega) (by omega), wX_per0 _ (by omega) (by omega)]
  · exact wX_mwr (by rw [dep_54]; omega)
theorem wX_st1 {X : xSt} {n : Nat} (h : std X 1 = n) (hn : n < 64) {m : Nat} (hm : m ≠ 1152 + n) : wX (mwr X 54 1 (nI (n + 1))) m = wX X m := by
  have h2 : std (mwr X 54 1 (nI (n + 1))) 1 = n + 1 := by unfold std; rw [mwr_s]; exact vN_nI (by omega)
  by_cases hb : 1152 ≤ m ∧ m < 1216
  · obtain ⟨d, rfl⟩ : ∃ d, m = 1152 + d := ⟨m - 1152, by omega⟩
    by_cases e : d < n
    · rw [wX_pro _ (by omega) (by omega), wX_pro _ (by omega) (by omega)]
      rfl
    · rw [wX_pro0 _ (by omega) (by omega), wX_pro0 _ (by omega) (by omega)]
  · exact wX_mwr (by rw [dep_54]; omega)
theorem wX_st2 {X : xSt} {n : Nat} (h : std X 2 = n) (hn : n < 64) {m : Nat} (hm : m ≠ 1216 + n) : wX (mwr X 54 2 (nI (n + 1))) m = wX X m := by
  have h2 : std (mwr X 54 2 (nI (n + 1))) 2 = n + 1 := by unfold std; rw [mwr_s]; exact vN_nI (by omega)
  by_cases hb : 1216 ≤ m ∧ m < 1280
  · obtain ⟨d, rfl⟩ : ∃ d, m = 1216 + d := ⟨m - 1216, by omega⟩
    by_cases e : d < n
    · rw [wX_ke _ (by omega) (by omega), wX_ke _ (by omega) (by omega)]
      exact congrArg (fun z => some (Sum.inl (FieldType.int, true, 2, z))) (cutI_congr fun i hi => mwr_r _ _ _ _ (by omega))
    · rw [wX_ke0 _ (by omega) (by omega), wX_ke0 _ (by omega) (by omega)]
  · exact wX_mwr (by rw [dep_54]; omega)
theorem wX_st3 {X : xSt} {n : Nat} (h : std X 3 = n) (hn : n < 64) {m : Nat} (hm : m ≠ 1280 + n) : wX (mwr X 54 3 (nI (n + 1))) m = wX X m := by
  have h2 : std (mwr X 54 3 (nI (n + 1))) 3 = n + 1 := by unfold std; rw [mwr_s]; exact vN_nI (by omega)
  by_cases hb : 1280 ≤ m ∧ m < 1344
  · obtain ⟨d, rfl⟩ : ∃ d, m = 1280 + d := ⟨m - 1280, by omega⟩
    by_cases e : d < n
    · rw [wX_ly _ (by omega) (by omega), wX_ly _ (by omega) (by omega)]
      exact congrArg (fun z => some (Sum.inl (FieldType.int, true, 3, z))) (cutI_congr fun i hi => mwr_r _ _ _ _ (by omega))
    · rw [wX_ly0 _ (by omega) (by omega), wX_ly0 _ (by omega) (by omega)]
  · exact wX_mwr (by rw [dep_54]; omega)
theorem wX_st4 {X : xSt} {n : Nat} (h : std X 4 = n) (hn : n < 64) {m : Nat} (hm : m ≠ 1344 + n) : wX (mwr X 54 4 (nI (n + 1))) m = wX X m := by
  have h2 : std (mwr X 54 4 (nI (n + 1))) 4 = n + 1 := by unfold std; rw [mwr_s]; exact vN_nI (by omega)
  by_cases hb : 1344 ≤ m ∧ m < 1408
  · obtain ⟨d, rfl⟩ : ∃ d, m = 1344 + d := ⟨m - 1344, by omega⟩
    by_cases e : d < n
    · rw [wX_lt _ (by omega) (by omega), wX_lt _ (by omega) (by omega)]
      exact congrArg (fun z => some (Sum.inl (FieldType.int, true, 3, z))) (cutI_congr fun i hi => mwr_r _ _ _ _ (by omega))
    · rw [wX_lt0 _ (by omega) (by omega), wX_lt0 _ (by omega) (by omega)]
  · exact wX_mwr (by rw [dep_54]; omega)
theorem wX_st5 {X : xSt} {n : Nat} (h : std X 5 = n) (hn : n < 64) {m : Nat} (hm : m ≠ 1408 + n) : wX (mwr X 54 5 (nI (n + 1))) m = wX X m := by
  have h2 : std (mwr X 54 5 (nI (n + 1))) 5 = n + 1 := by unfold std; rw [mwr_s]; exact vN_nI (by omega)
  by_cases hb : 1408 ≤ m ∧ m < 1472
  · obtain ⟨d, rfl⟩ : ∃ d, m = 1408 + d := ⟨m - 1408, by omega⟩
    by_cases e : d < n
    · rw [wX_sn _ (by omega) (by omega), wX_sn _ (by omega) (by omega)]
      exact congrArg (fun z => some (Sum.inl (FieldType.int, true, 3, z))) (cutI_congr fun i hi => mwr_r _ _ _ _ (by omega))
    · rw [wX_sn0 _ (by omega) (by omega), wX_sn0 _ (by omega) (by omega)]
  · exact wX_mwr (by rw [dep_54]; omega)
theorem tbF_of {S X : xSt} (h0 : S 0 = X 0) (h1 : S 1 = X 1) (t k : Nat) : tbF S t k = tbF X t k := by
  unfold tbF
  rw [h0, h1]
theorem pas_lt {X : xSt} {i t a T : Nat} (hi : i < 6) (ht : X 0 t = nI T) (haT : a ≤ T) (hT : T < 1000) (h : ¬ pas i (tbF X t a) = -1) : a < T := by
  by_cases e : a < T
  · exact e
  · exfalso
    apply h
    rw [show tbF X t a = -1 from if_pos (by rw [ht]; exact nI_le (by omega) (by omega))]
    exact pas_m1 i hi
theorem so_ix {b : Int32} (h : ¬ sortI b = -1) : ∃ j, j < 3 ∧ sortI b = nI j ∧ soN (sortI b) = 901 + j := by
  unfold sortI at *
  by_cases e0 : b = nI 109
  · rw [if_pos e0]; exact ⟨0, by decide, rfl, soN_0⟩
  rw [if_neg e0] at *
  by_cases e1 : b = nI 115
  · rw [if_pos e1]; exact ⟨1, by decide, rfl, soN_1⟩
  rw [if_neg e1] at *
  by_cases e2 : b = nI 97
  · rw [if_pos e2]; exact ⟨2, by decide, rfl, soN_2⟩
  rw [if_neg e2] at h
  exact absurd rfl h
theorem pasR {b : Int32} {lo hi : Nat} (hl : lo ≤ hi) (hh : hi < 2 ^ 30) : (if nI lo ≤ b ∧ b ≤ nI hi then b - nI lo else (-1 : Int32)) = -1 ↔ ¬ (nI lo ≤ b ∧ b ≤ nI hi) := by
  by_cases e : nI lo ≤ b ∧ b ≤ nI hi
  · rw [if_pos e]
    refine ⟨fun z => ?_, fun z => absurd e z⟩
    exfalso
    obtain ⟨j, hj, h⟩ := bd_sub hl (by omega) e.1 e.2
    rw [z] at h
    have : (0 : Int32) ≤ nI j := nI_pos' (by omega)
    rw [← h] at this
    exact absurd this (by decide +kernel)
  · rw [if_neg e]
    exact ⟨fun _ => e, fun _ => rfl⟩
theorem rdP_g {n a : Nat} (X : xSt) (hn : n < 8) : (sortI (tbF X 0 a) = -1 ∧ rdP n a X = (nI 0, X)) ∨ (¬ sortI (tbF X 0 a) = -1 ∧ pas 2 (tbF X 0 (a + 1)) = -1 ∧ rdP n a X = (nI 1, X)) ∨
    (¬ sortI (tbF X 0 a) = -1 ∧ ¬ pas 2 (tbF X 0 (a + 1)) = -1 ∧ rdP n a X = (nI 2, mwr (mwr X 3 n (sortI (tbF X 0 a))) 4 n (pas 2 (tbF X 0 (a + 1))))) := by
  unfold rdP rdPG
  rw [if_neg (by omega)]
  by_cases e : sortI (tbF X 0 a) = -1
  · rw [if_pos e]; exact .inl ⟨e, rfl⟩
  rw [if_neg e]
  by_cases g : nI 48 ≤ tbF X 0 (a + 1) ∧ tbF X 0 (a + 1) ≤ nI 57
  · rw [if_pos g]
    exact .inr (.inr ⟨e, fun z => (pasR (by decide) (by decide)).mp z g, by rw [show pas 2 (tbF X 0 (a + 1)) = tbF X 0 (a + 1) - nI 48 from if_pos g]⟩)
  · rw [if_neg g]
    exact .inr (.inl ⟨e, (pasR (by decide) (by decide)).mpr g, rfl⟩)
theorem rdQ_g {n a : Nat} (X : xSt) (hn : n < 10) : (pas 3 (tbF X 1 a) = -1 ∧ rdQ n a X = (nI 0, X)) ∨ (¬ pas 3 (tbF X 1 a) = -1 ∧ pas 4 (tbF X 1 (a + 1)) = -1 ∧ rdQ n a X = (nI 1, X)) ∨
    (¬ pas 3 (tbF X 1 a) = -1 ∧ ¬ pas 4 (tbF X 1 (a + 1)) = -1 ∧ pas 5 (tbF X 1 (a + 2)) = -1 ∧ rdQ n a X = (nI 2, X)) ∨ (¬ pas 3 (tbF X 1 a) = -1 ∧ ¬ pas 4 (tbF X 1 (a + 1)) = -1 ∧ ¬ pas 5 (tbF X 1 (a + 2)) = -1 ∧ pas 5 (tbF X 1 (a + 3)) = -1 ∧ rdQ n a X = (nI 3, X)) ∨
    (¬ pas 3 (tbF X 1 a) = -1 ∧ ¬ pas 4 (tbF X 1 (a + 1)) = -1 ∧ ¬ pas 5 (tbF X 1 (a + 2)) = -1 ∧ ¬ pas 5 (tbF X 1 (a + 3)) = -1 ∧ rdQ n a X = (nI 4, mwr (mwr (mwr (mwr X 6 n (pas 3 (tbF X 1 a))) 7 n (nI 1 + pas 4 (tbF X 1 (a + 1)))) 8 n (pas 5 (tbF X 1 (a + 2)))) 9 n (pas 5 (tbF X 1 (a + 3))))) := by
  unfold rdQ rdQG
  rw [if_neg (by omega)]
  by_cases e : nI 97 ≤ tbF X 1 a ∧ tbF X 1 a ≤ nI 104
  rotate_left
  · rw [if_neg e]; exact .inl ⟨(pasR (by decide) (by decide)).mpr e, rfl⟩
  have e' : ¬ pas 3 (tbF X 1 a) = -1 := fun z => (pasR (by decide) (by decide)).mp z e
  rw [if_pos e]
  by_cases g : nI 49 ≤ tbF X 1 (a + 1) ∧ tbF X 1 (a + 1) ≤ nI 57
  rotate_left
  · rw [if_neg g]; exact .inr (.inl ⟨e', (pasR (by decide) (by decide)).mpr g, rfl⟩)
  have g' : ¬ pas 4 (tbF X 1 (a + 1)) = -1 := fun z => (pasR (by decide) (by decide)).mp z g
  rw [if_pos g]
  by_cases m : nI 97 ≤ tbF X 1 (a + 2) ∧ tbF X 1 (a + 2) ≤ nI 120
  rotate_left
  · rw [if_neg m]; exact .inr (.inr (.inl ⟨e', g', (pasR (by decide) (by decide)).mpr m, rfl⟩))
  have m' : ¬ pas 5 (tbF X 1 (a + 2)) = -1 := fun z => (pasR (by decide) (by decide)).mp z m
  rw [if_pos m]
  by_cases d : nI 97 ≤ tbF X 1 (a + 3) ∧ tbF X 1 (a + 3) ≤ nI 120
  rotate_left
  · rw [if_neg d]; exact .inr (.inr (.inr (.inl ⟨e', g', m', (pasR (by decide) (by decide)).mpr d, rfl⟩)))
  have d' : ¬ pas 5 (tbF X 1 (a + 3)) = -1 := fun z => (pasR (by decide) (by decide)).mp z d
  rw [if_pos d]
  refine .inr (.inr (.inr (.inr ⟨e', g', m', d', ?_⟩)))
  rw [show pas 3 (tbF X 1 a) = tbF X 1 a - nI 97 from if_pos e, show pas 4 (tbF X 1 (a + 1)) = tbF X 1 (a + 1) - nI 49 from if_pos g, show pas 5 (tbF X 1 (a + 2)) = tbF X 1 (a + 2) - nI 97 from if_pos m, show pas 5 (tbF X 1 (a + 3)) = tbF X 1 (a + 3) - nI 97 from if_pos d]
  rw [show nI 1 + (tbF X 1 (a + 1) - nI 49) = tbF X 1 (a + 1) - nI 48 from by
    obtain ⟨j, hj, h⟩ := bd_sub (a := 49) (b := 57) (by decide) (by decide) g.1 g.2
    obtain ⟨j2, hj2, h2⟩ := bd_sub (a := 48) (b := 57) (by decide) (by decide) (Int32.le_trans (nI_le (by decide) (by decide)) g.1) g.2
    rw [h, h2, nI_add]
    congr 1
    have e1 : tbF X 1 (a + 1) = nI j + nI 49 := by rw [← h]; exact (Int32.sub_add_cancel _ _).symm
    have e2 : tbF X 1 (a + 1) = nI j2 + nI 48 := by rw [← h2]; exact (Int32.sub_add_cancel _ _).symm
    rw [e1, nI_add, nI_add] at e2
    have := (nI_eq (by omega) (by omega)).mp e2
    omega]
theorem tb46 (X : xSt) (t : Nat) (v : Int32) : tbF (mwr X 46 t v) = tbF X := by
  funext t k
  exact tbF_of (mwr_R _ _ _ (by decide)) (mwr_R _ _ _ (by decide)) t k
