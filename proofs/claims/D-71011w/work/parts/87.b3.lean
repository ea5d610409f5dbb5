/-! PromiseTailor's side: sheets from outside: lose, sheet, put, get -/
set_option maxRecDepth 100000
theorem l64_3 : (3 : Int64) = (nI 3).toInt64 := by decide +kernel
/-- the forms of the model's sheets -/
def F40 (G : xSt) : Prop := ∀ s, s < 4 → bd (G 40 s) 2
def ftN (K : Nat) : FieldType := if K = 0 then .byte else if K = 1 then .short else .int
def lyN (K : Nat) (v : Int32) : Int32 := if K = 0 then v.toInt8.toInt32 else if K = 1 then v.toInt16.toInt32 else v
theorem sh_tN {X : xSt} {s : Nat} : shTy X s = ftN (fm X s) := sh_ty
theorem nI_20 : ¬ nI 2 = 0 ∧ ¬ nI 2 = nI 1 ∧ ¬ nI 1 = 0 := by decide +kernel
theorem fm_3 (X : xSt) (s : Nat) : fm X s = 0 ∨ fm X s = 1 ∨ fm X s = 2 := by
  unfold fm
  by_cases a : X 40 s = 0
  · rw [if_pos a]; exact .inl rfl
  · rw [if_neg a]
    by_cases b : X 40 s = nI 1
    · rw [if_pos b]; exact .inr (.inl rfl)
    · rw [if_neg b]; exact .inr (.inr rfl)
theorem fm_bd {X : xSt} {s : Nat} (h : bd (X 40 s) 2) : X 40 s = nI (fm X s) := by
  obtain ⟨m, hm, e⟩ := h
  unfold fm
  rw [e]
  rcases (show m = 0 ∨ m = 1 ∨ m = 2 by omega) with z | z | z
  · rw [z, if_pos (show nI 0 = 0 from rfl)]
  · rw [z, if_neg nI_20.2.2, if_pos rfl]
  · rw [z, if_neg nI_20.1, if_neg nI_20.2.1]
theorem lyV_fm {X : xSt} {s : Nat} (v : Int32) : lyV (X 40 s) v = lyN (fm X s) v := by
  unfold lyV fm lyN
  by_cases a : X 40 s = 0
  · rw [if_pos a, if_pos a, if_pos rfl]
  · rw [if_neg a, if_neg a]
    by_cases b : X 40 s = nI 1
    · rw [if_pos b, if_pos b, if_neg (by decide), if_pos rfl]
    · rw [if_neg b, if_neg b, if_neg (by decide), if_neg (by decide)]
theorem SR_3 {K : Nat} {X : xSt} {s : Nat} (h : SR K X s) : K = 0 ∨ K = 1 ∨ K = 2 := by
  have := fm_3 X s
  rw [h.2.2.1] at this
  exact this
theorem x_shty (l : Launch) {X : xSt} {K s : Nat} (h : SR K X s) : Cq l yX4_type cX4_type 1 (some .int) 0 [.ref (768 + s)] (wX X) (some (.int (nI K))) := by
  rcases SR_3 h with rfl | rfl | rfl
  · exact x_shty0 l h
  · exact x_shty1 l h
  · exact x_shty2 l h
theorem x_shsz (l : Launch) {X : xSt} {K s : Nat} (h : SR K X s) : Cq l yX4_size cX4_size 1 (some .int) 1 [.ref (768 + s)] (wX X) (some (.int (X 41 s))) := by
  rcases SR_3 h with rfl | rfl | rfl
  · exact x_shsz0 l h
  · exact x_shsz1 l h
  · exact x_shsz2 l h
theorem x_shit (l : Launch) {X : xSt} {K s i : Nat} (h : SR K X s) (hi : i < vN (X 41 s)) : Cq l yX4_item cX4_item 3 (some .int) 0 [.ref (768 + s), .int (nI K), .int (nI i)] (wX X) (some (.int (X 42 (60 * s + i)))) := by
  rcases SR_3 h with rfl | rfl | rfl
  · exact x_shit0 l h hi
  · exact x_shit1 l h hi
  · exact x_shit2 l h hi
theorem x_shly (l : Launch) {X : xSt} {K s i : Nat} (h : SR K X s) (hi : i < vN (X 41 s)) (v : Int32) : Cy l yX4_lay (ws_ yX4_lay cX4_lay 4 none) 0 [.ref (768 + s), .int (nI K), .int (nI i), .int v] X (fun r X' => r = none ∧ X' = mwr X 42 (60 * s + i) (lyN K v)) := by
  rcases SR_3 h with rfl | rfl | rfl
  · exact x_shly0 l h hi v
  · exact x_shly1 l h hi v
  · exact x_shly2 l h hi v
theorem x_shitI (l : Launch) (hl : l.stackTraces = false) {X : xSt} {K s : Nat} (h : SR K X s) (hcb : CB X) (i : Int32) (hout : ¬ vp_in i (vN (X 41 s))) : Cn l yX4_item (ws_ yX4_item cX4_item 3 (some .int)) (rmD 0 3 310, F36, xNo, xThr "java/lang/ArrayIndexOutOfBoundsException" X) [.ref (768 + s), .int (nI K), .int i] (wX X) := by
  rcases SR_3 h with rfl | rfl | rfl
  · exact x_shitI0 l hl h hcb i hout
  · exact x_shitI1 l hl h hcb i hout
  · exact x_shitI2 l hl h hcb i hout
theorem x_shitC (l : Launch) (hl : l.stackTraces = false) {X : xSt} {K t s : Nat} (h : SR K X s) (hcb : CB X) (ht : t ≤ 2) (hKt : t ≠ K) (i : Int32) : Cn l yX4_item (ws_ yX4_item cX4_item 3 (some .int)) (rmD 0 3 310, F36, xNo, xThr "java/lang/ClassCastException" X) [.ref (768 + s), .int (nI t), .int i] (wX X) := by
  have ht3 : t = 0 ∨ t = 1 ∨ t = 2 := by omega
  rcases SR_3 h with rfl | rfl | rfl <;> rcases ht3 with rfl | rfl | rfl
  · exact absurd rfl hKt
  · exact x_shitC01 l hl h hcb i
  · exact x_shitC02 l hl h hcb i
  · exact x_shitC10 l hl h hcb i
  · exact absurd rfl hKt
  · exact x_shitC12 l hl h hcb i
  · exact x_shitC20 l hl h hcb i
  · exact x_shitC21 l hl h hcb i
  · exact absurd rfl hKt
theorem x_shlyI (l : Launch) (hl : l.stackTraces = false) {X : xSt} {K s : Nat} (h : SR K X s) (hcb : CB X) (i : Int32) (v : Int32) (hout : ¬ vp_in i (vN (X 41 s))) : Cn l yX4_lay (ws_ yX4_lay cX4_lay 4 none) (rmD 0 3 310, F36, xNo, xThr "java/lang/ArrayIndexOutOfBoundsException" X) [.ref (768 + s), .int (nI K), .int i, .int v] (wX X) := by
  rcases SR_3 h with rfl | rfl | rfl
  · exact x_shlyI0 l hl h hcb i v hout
  · exact x_shlyI1 l hl h hcb i v hout
  · exact x_shlyI2 l hl h hcb i v hout
theorem x_shlyC (l : Launch) (hl : l.stackTraces = false) {X : xSt} {K t s : Nat} (h : SR K X s) (hcb : CB X) (ht : t ≤ 2) (hKt : t ≠ K) (i : Int32) (v : Int32) : Cn l yX4_lay (ws_ yX4_lay cX4_lay 4 none) (rmD 0 3 310, F36, xNo, xThr "java/lang/ClassCastException" X) [.ref (768 + s), .int (nI t), .int i, .int v] (wX X) := by
  have ht3 : t = 0 ∨ t = 1 ∨ t = 2 := by omega
  rcases SR_3 h with rfl | rfl | rfl <;> rcases ht3 with rfl | rfl | rfl
  · exact absurd rfl hKt
  · exact x_shlyC01 l hl h hcb i v
  · exact x_shlyC02 l hl h hcb i v
  · exact x_shlyC10 l hl h hcb i v
  · exact absurd rfl hKt
  · exact x_shlyC12 l hl h hcb i v
  · exact x_shlyC20 l hl h hcb i v
  · exact x_shlyC21 l hl h hcb i v
  · exact absurd rfl hKt
set_option maxHeartbeats 4000000 in
theorem s_isSheet (l : Launch) (v : Int32) : Cms l yX0_isSheet cX0_isSheet 1 (some .boolean) 1 [.int v] (fun r => ∃ x, r = some (.int x) ∧ x = bI (nI 0 ≤ v ∧ v ≤ nI 3)) := by
  refine Cms_start (ls := [some (.int v)]) (by decide) rfl (Nat.le_of_ble_eq_true rfl) ?_
  intro w Q hQ
  refine V_iload_n dX0_isSheet_0 rfl ?_
  refine V_i2l dX0_isSheet_1 rfl ?_
  refine V_lconst (v := 0) dX0_isSheet_2 (by rfl) ?_
  refine V_ldc2 dX0_isSheet_3 q710 ?_
  refine Vs_callIF (s_in l v.toInt64 0 3) dX0_isSheet_6 (lw_S q307 q308 q95 q309) hs_X0_in (by decide) rfl (Nat.le_of_ble_eq_true rfl) ?_
  exact V_zreturn dX0_isSheet_9 rfl (by first | exact bI_nr | exact nr_0 | exact nr_1) (hQ _ ⟨_, rfl, bI_iff (by rw [l64_0, l64_3]; exact i64_in _ _ _)⟩)
set_option maxHeartbeats 4000000 in
theorem x_met (l : Launch) {X : xSt} (n : Nat) : Cy l yX0_met (ws_ yX0_met cX0_met 2 (some .int)) 0 [.ref 0, .int (nI n)] X (fun r X' => ∃ x, r = some (.int x) ∧ x = -10 - nI n ∧ X' = mwr X 44 0 (nI n)) := by
  refine Cz_start (ls := [some (.ref 0), some (.int (nI n))]) (by decide) rfl (Nat.le_of_ble_eq_true rfl) (fun _ _ _ h => h) ?_
  intro Q hQ
  refine V_aload_n dX0_met_0 rfl ?_
  refine V_iload_n dX0_met_1 rfl ?_
  refine Vx_put0 dX0_met_2 q227 ?_
  refine V_bipush dX0_met_5 lb_m10 ?_
  refine V_iload_n dX0_met_7 rfl ?_
  refine V_isub dX0_met_8 ?_
  exact V_ireturn dX0_met_9 rfl (hQ _ _ ⟨_, rfl, rfl, rfl⟩)
set_option maxHeartbeats 4000000 in
theorem x_lowest (l : Launch) {X : xSt} (n : Nat) : Cy l yX0_lowest (ws_ yX0_lowest cX0_lowest 2 (some .int)) 0 [.ref 0, .int (nI n)] X (fun r X' => ∃ x, r = some (.int x) ∧ x = -2147483648 ∧ X' = mwr X 44 0 (nI n)) := by
  refine Cz_start (ls := [some (.ref 0), some (.int (nI n))]) (by decide) rfl (Nat.le_of_ble_eq_true rfl) (fun _ _ _ h => h) ?_
  intro Q hQ
  refine V_aload_n dX0_lowest_0 rfl ?_
  refine V_iload_n dX0_lowest_1 rfl ?_
  refine Vx_put0 dX0_lowest_2 q227 ?_
  refine V_ldc dX0_lowest_5 q1114 ?_
  exact V_ireturn dX0_lowest_7 rfl (hQ _ _ ⟨_, rfl, rfl, rfl⟩)
theorem sh_nul {X : xSt} {s : Nat} (hs : s < 4) (h : X 39 s = 0) : wX X (768 + s) = some (.inr (6, true, [.null])) := by
  rw [wX_sh X hs, if_pos h]
theorem sh_drop {X : xSt} {s : Nat} {v : Value} (hs : s < 4) : ∀ n c, upw (wX (mwr X 39 s (nI 0))) (768 + s) (.inr (6, true, [v])) n = some c → upw (wX X) (768 + s) (.inr (6, true, [v])) n = some c := by
  intro n c hc
  by_cases e : n = 768 + s
  · rw [e, upw_self] at hc ⊢; exact hc
  · rw [upw_ne e] at hc ⊢
    by_cases e2 : n = 832 + s
    · rw [e2, wX_row0 _ hs (show mwr X 39 s (nI 0) 39 s = 0 from mwr_s _ _ _ _)] at hc; cases hc
    · rw [wX_mwr (by rw [dep_39]; omega)] at hc; exact hc
theorem sh_lost {X : xSt} {s : Nat} (hs : s < 4) : upw (wX (mwr X 39 s (nI 0))) (768 + s) (.inr (6, true, [.null])) = wX (mwr X 39 s (nI 0)) := upw_same (sh_nul hs (mwr_s _ _ _ _))
theorem sh_lose {X : xSt} {s : Nat} (hs : s < 4) : ∀ n c, wX (mwr X 39 s (nI 0)) n = some c → upw (wX X) (768 + s) (.inr (6, true, [.null])) n = some c := by
  intro n c hc
  rw [← sh_lost hs] at hc
  exact sh_drop hs n c hc
theorem XY_sh {G X : xSt} (h : XY G X) : X 39 = G 39 ∧ X 40 = G 40 ∧ X 41 = G 41 ∧ X 42 = G 42 := ⟨h.2.1 39 (by unfold cj; omega), h.2.1 40 (by unfold cj; omega), h.2.1 41 (by unfold cj; omega), h.2.1 42 (by unfold cj; omega)⟩
theorem XY_SR {G X : xSt} (h : XY G X) (hM : MI G) {s : Nat} (hs : s < 4) (h39 : ¬ X 39 s = 0) : SR (fm X s) X s := ⟨hs, h39, rfl, by rw [(XY_sh h).2.2.1]; exact hM.2.2.2.2.2.2.2.2.2.2.2.2 s hs⟩
theorem XY_zei {s : Nat} : ∀ j i {G X : xSt}, XY G X → XY (itF (zeI s) j i G) (itF (zeI s) j i X)
  | 0, _, _, _, h => h
  | j + 1, i, _, _, h => XY_zei j (i + 1) (XY_wr h (by omega))
theorem XY_sheetT {G X : xSt} (h : XY G X) (s : Nat) (f n : Int32) : XY (sheetT s f n G) (sheetT s f n X) := XY_zei 60 0 (XY_wr (XY_wr (XY_wr h (by omega)) (by omega)) (by omega))
theorem zei_v {s : Nat} : ∀ j i (S : xSt) (r q : Nat), itF (zeI s) j i S r q = if r = 42 ∧ 60 * s + i ≤ q ∧ q < 60 * s + i + j then nI 0 else S r q
  | 0, i, S, r, q => by rw [if_neg (by omega)]; rfl
  | j + 1, i, S, r, q => by
    show itF (zeI s) j (i + 1) (zeI s i S) r q = _
    rw [zei_v j (i + 1)]
    unfold zeI mwr
    by_cases a : r = 42 ∧ 60 * s + (i + 1) ≤ q ∧ q < 60 * s + (i + 1) + j
    · rw [if_pos a, if_pos (by omega)]
    · rw [if_neg a]
      by_cases b : r = 42 ∧ q = 60 * s + i
      · rw [if_pos b, if_pos (by omega)]
      · rw [if_neg b, if_neg (by omega)]
theorem sheetT_o {s : Nat} {f n : Int32} {X : xSt} {r q : Nat} (h : ¬ (r = 42 ∧ 60 * s ≤ q ∧ q < 60 * s + 60)) (h2 : ¬ (39 ≤ r ∧ r ≤ 41 ∧ q = s)) : sheetT s f n X r q = X r q := by
  unfold sheetT
  rw [zei_v, if_neg (by omega)]
  unfold mwr
  rw [if_neg (by omega), if_neg (by omega), if_neg (by omega)]
theorem sheetT_s {s : Nat} {f n : Int32} {X : xSt} : sheetT s f n X 39 s = nI 1 ∧ sheetT s f n X 40 s = f ∧ sheetT s f n X 41 s = n := by
  unfold sheetT
  refine ⟨?_, ?_, ?_⟩
  · rw [zei_v, if_neg (by omega), mwr_r _ _ _ _ (by decide), mwr_r _ _ _ _ (by decide), mwr_s]
  · rw [zei_v, if_neg (by omega), mwr_r _ _ _ _ (by decide), mwr_s]
  · rw [zei_v, if_neg (by omega), mwr_s]
theorem sheetT_z {s : Nat} {f n : Int32} {X : xSt} {i : Nat} (hi : i < 60) : sheetT s f n X 42 (60 * s + i) = nI 0 := by
  unfold sheetT
  rw [zei_v, if_pos (by omega)]
theorem fm_nI {X : xSt} {s K : Nat} (hK : K ≤ 2) (h : X 40 s = nI K) : fm X s = K := by
  unfold fm
  rw [h]
  rcases (show K = 0 ∨ K = 1 ∨ K = 2 by omega) with z | z | z
  · rw [z, if_pos (show nI 0 = 0 from rfl)]
  · rw [z, if_neg nI_20.2.2, if_pos rfl]
  · rw [z, if_neg nI_20.1, if_neg nI_20.2.1]
theorem sh_new {X : xSt} {s K N : Nat} {v : Value} (hs : s < 4) (hK : K ≤ 2) (hN : N ≤ 60) : upw (upw (upw (wX (mwr X 39 s (nI 0))) (768 + s) (.inr (6, true, [v]))) (832 + s) (.inl (ftN K, true, N, cutI N (fun _ => 0)))) (768 + s) (.inr (6, true, [.ref (832 + s)])) = wX (sheetT s (nI K) (nI N) X) := by
  obtain ⟨a, b, c⟩ := @sheetT_s s (nI K) (nI N) X
  have h39 : ¬ sheetT s (nI K) (nI N) X 39 s = 0 := by rw [a]; exact nI1_0
  funext n
  by_cases e1 : n = 768 + s
  · rw [e1, upw_self, wX_sh _ hs, if_neg h39]
  · by_cases e2 : n = 832 + s
    · rw [e2, upw_ne (by omega), upw_self, wX_row _ ⟨hs, h39⟩, sh_tN, fm_nI hK b, c, vN_nI (by omega), Nat.min_eq_right hN]
      exact congrArg (fun z => some (Sum.inl (ftN K, true, N, z))) (cutI_congr fun i hi => (sheetT_z (by omega)).symm)
    · rw [upw_ne e1, upw_ne e2, upw_ne e1]
      refine wX_dep fun r q hd => ?_
      have h1 : ¬ (r = 39 ∧ q = s) := fun z => by obtain ⟨z1, z2⟩ := z; rw [z1, dep_39] at hd; omega
      have h2 : ¬ (r = 40 ∧ q = s) := fun z => by obtain ⟨z1, z2⟩ := z; rw [z1, dep_40] at hd; omega
      have h3 : ¬ (r = 41 ∧ q = s) := fun z => by obtain ⟨z1, z2⟩ := z; rw [z1, dep_41] at hd; omega
      have h4 : ¬ (r = 42 ∧ 60 * s ≤ q ∧ q < 60 * s + 60) := fun z => by obtain ⟨z1, z2⟩ := z; rw [z1, dep_42] at hd; omega
      rw [sheetT_o h4 (by omega)]
      unfold mwr
      rw [if_neg h1]
theorem tgt_sh {X : xSt} {s : Nat} (hs : s < 4) (h : X 39 s = 0) : ¬ tgt X (832 + s) := by
  intro ht
  unfold tgt at ht
  rcases ht with ht | ⟨q', h1, h2, h3⟩ | ht | ⟨s', h1, h2, h3⟩ | ht | ⟨q', i, h1, h2, h3⟩ | ⟨i, h1, h2, h3⟩
  · omega
  · omega
  · omega
  · have e : s' = s := by omega
    rw [e] at h3
    exact h3 h
  · omega
  · omega
  · rcases h3 with ⟨h3, h4⟩ | ⟨h3, h4⟩
    · omega
    · omega
/-- the names that a sheet may give -/
def sF (s n : Nat) : Prop := n = 832 + s ∨ 1536 ≤ n
/-- .. that any sheet may give -/
def sG (n : Nat) : Prop := (832 ≤ n ∧ n < 836) ∨ 1536 ≤ n
theorem sG_lo : ∀ n, 900 ≤ n → n < 950 → ¬ sG n := fun n h1 h2 h => by unfold sG at h; omega
theorem sF_lo {s : Nat} (hs : s < 4) : ∀ n, 900 ≤ n → n < 950 → ¬ sF s n := fun n h1 h2 h => by unfold sF at h; omega
theorem nI_nn {n : Nat} (h : n < 2 ^ 31) : ¬ nI n < 0 := fun z => Int32.lt_irrefl (Int32.lt_of_lt_of_le z (nI_le (Nat.zero_le n) h))
theorem x_rowOf0 (l : Launch) {w : xW} {a N : Nat} (hw : w a = none) (hcell : ∀ n c, w n = some c → xnr a c) (hN : N ≤ 60) (ha : a < 900) : Cn l yX0_rowOf (ws_ yX0_rowOf cX0_rowOf 2 (some (.object "java/lang/Object"))) (rmD 0 1 60, (fun n => n = a), (fun r w' => r = some (.ref a) ∧ w' = upw w a (.inl (.byte, true, N, cutI N (fun _ => 0)))), xX0) [.int (nI 0), .int (nI N)] w := by
  refine Cn_start (ls := [some (.int (nI 0)), some (.int (nI N))]) (by decide) rfl (Nat.le_of_ble_eq_true rfl) (fun n h1 h2 h => by omega) ?_
  refine V_iload_n dX0_rowOf_0 rfl ?_
  refine V_lookup (off := 27) (tgt := 28) dX0_rowOf_1 (by decide +kernel) (by decide +kernel) (by decide) ?_
  refine V_iload_n dX0_rowOf_28 rfl ?_
  refine V_newa (k' := 0) (n' := 0) (N := N) (f := cutI N (fun _ => 0)) a rfl dX0_rowOf_29 q194 (nI_nn (by omega)) (nI_clamp (by omega)) (by show N * 1 ≤ 536870912; omega) (fun j hj => cutI_at hj) hw rfl hcell (nel_c ne_i (nel_c ne_i nel_0)) nes_0 ⟨Nat.le_of_ble_eq_true rfl, by show N + 0 ≤ 60; omega⟩ ?_
  exact V_areturn dX0_rowOf_31 rfl (.inl ⟨_, rfl⟩) (.inr ⟨_, rfl⟩) ⟨rfl, rfl⟩
theorem x_rowOfN0 (l : Launch) (hl : l.stackTraces = false) {X : xSt} (hcb : CB X) {n : Int32} (h0 : n < 0) : Cn l yX0_rowOf (ws_ yX0_rowOf cX0_rowOf 2 (some (.object "java/lang/Object"))) (rmD 0 3 310, F36, xNo, xThr "java/lang/NegativeArraySizeException" X) [.int (nI 0), .int n] (wX X) := by
  refine Cn_start (ls := [some (.int (nI 0)), some (.int n)]) (by decide) rfl (Nat.le_of_ble_eq_true rfl) F36_lo ?_
  refine V_iload_n dX0_rowOf_0 rfl ?_
  refine V_lookup (off := 27) (tgt := 28) dX0_rowOf_1 (by decide +kernel) (by decide +kernel) (by decide) ?_
  refine V_iload_n dX0_rowOf_28 rfl ?_
  refine V_newaZ h0 dX0_rowOf_29 (fun tx e => ?_)
  refine V_thrNASE (k' := 0) (n' := 0) hl (by rw [e]; exact negative_text_modelled h0) (by rw [e]; exact Nat.le_trans (negative_text_bytes n) (by decide)) ⟨Nat.le_of_ble_eq_true rfl, Nat.le_of_ble_eq_true rfl⟩ (Nat.le_of_ble_eq_true rfl) (wX_far X (by decide)) (Nat.le_refl _) (sh_hi hcb) (nel_c ne_i (nel_c ne_i nel_0)) nes_0 ⟨Nat.le_of_ble_eq_true rfl, Nat.le_of_ble_eq_true rfl⟩ ?_
  exact Vx_out (fun z hz => nomatch hz) ⟨rfl, rfl, rfl⟩
theorem x_rowOf1 (l : Launch) {w : xW} {a N : Nat} (hw : w a = none) (hcell : ∀ n c, w n = some c → xnr a c) (hN : N ≤ 60) (ha : a < 900) : Cn l yX0_rowOf (ws_ yX0_rowOf cX0_rowOf 2 (some (.object "java/lang/Object"))) (rmD 0 1 60, (fun n => n = a), (fun r w' => r = some (.ref a) ∧ w' = upw w a (.inl (.short, true, N, cutI N (fun _ => 0)))), xX0) [.int (nI 1), .int (nI N)] w := by
  refine Cn_start (ls := [some (.int (nI 1)), some (.int (nI N))]) (by decide) rfl (Nat.le_of_ble_eq_true rfl) (fun n h1 h2 h => by omega) ?_
  refine V_iload_n dX0_rowOf_0 rfl ?_
  refine V_lookup (off := 31) (tgt := 32) dX0_rowOf_1 (by decide +kernel) (by decide +kernel) (by decide) ?_
  refine V_iload_n dX0_rowOf_32 rfl ?_
  refine V_newa (k' := 0) (n' := 0) (N := N) (f := cutI N (fun _ => 0)) a rfl dX0_rowOf_33 q1064 (nI_nn (by omega)) (nI_clamp (by omega)) (by show N * 2 ≤ 536870912; omega) (fun j hj => cutI_at hj) hw rfl hcell (nel_c ne_i (nel_c ne_i nel_0)) nes_0 ⟨Nat.le_of_ble_eq_true rfl, by show N + 0 ≤ 60; omega⟩ ?_
  exact V_areturn dX0_rowOf_35 rfl (.inl ⟨_, rfl⟩) (.inr ⟨_, rfl⟩) ⟨rfl, rfl⟩
theorem x_rowOfN1 (l : Launch) (hl : l.stackTraces = false) {X : xSt} (hcb : CB X) {n : Int32} (h0 : n < 0) : Cn l yX0_rowOf (ws_ yX0_rowOf cX0_rowOf 2 (some (.object "java/lang/Object"))) (rmD 0 3 310, F36, xNo, xThr "java/lang/NegativeArraySizeException" X) [.int (nI 1), .int n] (wX X) := by
  refine Cn_start (ls := [some (.int (nI 1)), some (.int n)]) (by decide) rfl (Nat.le_of_ble_eq_true rfl) F36_lo ?_
  refine V_iload_n dX0_rowOf_0 rfl ?_
  refine V_lookup (off := 31) (tgt := 32) dX0_rowOf_1 (by decide +kernel) (by decide +kernel) (by decide) ?_
  refine V_iload_n dX0_rowOf_32 rfl ?_
  refine V_newaZ h0 dX0_rowOf_33 (fun tx e => ?_)
  refine V_thrNASE (k' := 0) (n' := 0) hl (by rw [e]; exact negative_text_modelled h0) (by rw [e]; exact Nat.le_trans (negative_text_bytes n) (by decide)) ⟨Nat.le_of_ble_eq_true rfl, Nat.le_of_ble_eq_true rfl⟩ (Nat.le_of_ble_eq_true rfl) (wX_far X (by decide)) (Nat.le_refl _) (sh_hi hcb) (nel_c ne_i (nel_c ne_i nel_0)) nes_0 ⟨Nat.le_of_ble_eq_true rfl, Nat.le_of_ble_eq_true rfl⟩ ?_
  exact Vx_out (fun z hz => nomatch hz) ⟨rfl, rfl, rfl⟩
theorem x_rowOf2 (l : Launch) {w : xW} {a N : Nat} (hw : w a = none) (hcell : ∀ n c, w n = some c → xnr a c) (hN : N ≤ 60) (ha : a < 900) : Cn l yX0_rowOf (ws_ yX0_rowOf cX0_rowOf 2 (some (.object "java/lang/Object"))) (rmD 0 1 60, (fun n => n = a), (fun r w' => r = some (.ref a) ∧ w' = upw w a (.inl (.int, true, N, cutI N (fun _ => 0)))), xX0) [.int (nI 2), .int (nI N)] w := by
  refine Cn_start (ls := [some (.int (nI 2)), some (.int (nI N))]) (by decide) rfl (Nat.le_of_ble_eq_true rfl) (fun n h1 h2 h => by omega) ?_
  refine V_iload_n dX0_rowOf_0 rfl ?_
  refine V_lookup (off := 35) (tgt := 36) dX0_rowOf_1 (by decide +kernel) (by decide +kernel) (by decide) ?_
  refine V_iload_n dX0_rowOf_36 rfl ?_
  refine V_newa (k' := 0) (n' := 0) (N := N) (f := cutI N (fun _ => 0)) a rfl dX0_rowOf_37 q226 (nI_nn (by omega)) (nI_clamp (by omega)) (by show N * 4 ≤ 536870912; omega) (fun j hj => cutI_at hj) hw rfl hcell (nel_c ne_i (nel_c ne_i nel_0)) nes_0 ⟨Nat.le_of_ble_eq_true rfl, by show N + 0 ≤ 60; omega⟩ ?_
  exact V_areturn dX0_rowOf_39 rfl (.inl ⟨_, rfl⟩) (.inr ⟨_, rfl⟩) ⟨rfl, rfl⟩
theorem x_rowOfN2 (l : Launch) (hl : l.stackTraces = false) {X : xSt} (hcb : CB X) {n : Int32} (h0 : n < 0) : Cn l yX0_rowOf (ws_ yX0_rowOf cX0_rowOf 2 (some (.object "java/lang/Object"))) (rmD 0 3 310, F36, xNo, xThr "java/lang/NegativeArraySizeException" X) [.int (nI 2), .int n] (wX X) := by
  refine Cn_start (ls := [some (.int (nI 2)), some (.int n)]) (by decide) rfl (Nat.le_of_ble_eq_true rfl) F36_lo ?_
  refine V_iload_n dX0_rowOf_0 rfl ?_
  refine V_lookup (off := 35) (tgt := 36) dX0_rowOf_1 (by decide +kernel) (by decide +kernel) (by decide) ?_
  refine V_iload_n dX0_rowOf_36 rfl ?_
  refine V_newaZ h0 dX0_rowOf_37 (fun tx e => ?_)
  refine V_thrNASE (k' := 0) (n' := 0) hl (by rw [e]; exact negative_text_modelled h0) (by rw [e]; exact Nat.le_trans (negative_text_bytes n) (by decide)) ⟨Nat.le_of_ble_eq_true rfl, Nat.le_of_ble_eq_true rfl⟩ (Nat.le_of_ble_eq_true rfl) (wX_far X (by decide)) (Nat.le_refl _) (sh_hi hcb) (nel_c ne_i (nel_c ne_i nel_0)) nes_0 ⟨Nat.le_of_ble_eq_true rfl, Nat.le_of_ble_eq_true rfl⟩ ?_
  exact Vx_out (fun z hz => nomatch hz) ⟨rfl, rfl, rfl⟩
theorem x_rowOf (l : Launch) {w : xW} {a N K : Nat} (hK : K ≤ 2) (hw : w a = none) (hcell : ∀ n c, w n = some c → xnr a c) (hN : N ≤ 60) (ha : a < 900) : Cn l yX0_rowOf (ws_ yX0_rowOf cX0_rowOf 2 (some (.object "java/lang/Object"))) (rmD 0 1 60, (fun n => n = a), (fun r w' => r = some (.ref a) ∧ w' = upw w a (.inl (ftN K, true, N, cutI N (fun _ => 0)))), xX0) [.int (nI K), .int (nI N)] w := by
  rcases (show K = 0 ∨ K = 1 ∨ K = 2 by omega) with rfl | rfl | rfl
  · exact x_rowOf0 l hw hcell hN ha
  · exact x_rowOf1 l hw hcell hN ha
  · exact x_rowOf2 l hw hcell hN ha
theorem x_rowOfN (l : Launch) (hl : l.stackTraces = false) {X : xSt} {K : Nat} (hK : K ≤ 2) (hcb : CB X) {n : Int32} (h0 : n < 0) : Cn l yX0_rowOf (ws_ yX0_rowOf cX0_rowOf 2 (some (.object "java/lang/Object"))) (rmD 0 3 310, F36, xNo, xThr "java/lang/NegativeArraySizeException" X) [.int (nI K), .int n] (wX X) := by
  rcases (show K = 0 ∨ K = 1 ∨ K = 2 by omega) with rfl | rfl | rfl
  · exact x_rowOfN0 l hl hcb h0
  · exact x_rowOfN1 l hl hcb h0
  · exact x_rowOfN2 l hl hcb h0
set_option maxHeartbeats 400000 in
theorem x_lose (l : Launch) {G X : xSt} (h : XR G X) (hM : MI G) (s : Int32) : Cy l yX0_lose (ws_ yX0_lose cX0_lose 3 (some .int)) 3 [.ref 0, .int s] X (fun r X' => ∃ x, r = some (.int x) ∧ x = (loseP s G).1 ∧ XR (loseP s G).2 X') := by
  refine Cz_start (ls := [some (.ref 0), some (.int s), none]) (by decide) rfl (Nat.le_of_ble_eq_true rfl) (fun _ _ _ h => h) ?_
  intro Q hQ
  have hy := XR_XY h
  obtain ⟨g39, g40, g41, g42⟩ := XY_sh hy
  have L0 : ∀ (j : Nat) (hj : j < 4) (e : s = nI j) (h0 : X 39 j = 0), V l (yX0_lose.cls, cX0_lose, 3, (some .int), [], yX0_lose.name) (rmD 3 0 0, xF0, Q, xX0) 10 [some (.ref 0), some (.int s), none] [] (wX X) 0 0 := by
    intro j hj e h0
    subst e
    have hin : nI 0 ≤ nI j ∧ nI j ≤ nI 3 := ⟨nI_le (Nat.zero_le _) (by omega), nI_le (by omega) (by decide)⟩
    have hF : loseP (nI j) G = meetsF 1 G := by unfold loseP; rw [if_pos hin, vN_nI (by omega), if_pos (by rw [← g39]; exact h0)]
    have hMF : MI (meetsF 1 G).2 := by have z := MI_lose hM (nI j); rw [hF] at z; exact z
    refine V_aload_n dX0_lose_10 rfl ?_
    refine V_getf (i := 23) k_X0 dX0_lose_11 (by decide) q250 (wX_obj _) rfl ?_
    refine V_iload_n dX0_lose_14 rfl ?_
    refine Vx_aa_sheets dX0_lose_15 rfl hj ?_
    refine V_getfN (i := 0) k_X4 dX0_lose_16 (by decide) (nw q222 rfl) (sh_nul hj h0) rfl ?_
    refine V_ifnonnullN dX0_lose_19 ?_
    refine V_aload_n dX0_lose_22 rfl ?_
    refine V_iconst dX0_lose_23 li_1 ?_
    refine Vz_vI (k' := 0) (n' := 0) (x_met l (X := X) 1) dX0_lose_24 (lw_V q764 q766 qs8 q95 q767) hv_X0_met (by decide) (wX_obj _) cl_X0 rfl rfl (Nat.le_of_ble_eq_true rfl) (fun _ h => h.elim) (fun _ _ => xok0) (fun _ _ => xok0) ⟨Nat.zero_le _, Nat.zero_le _⟩ (fun x9 X9 h9 => ?_)
    obtain ⟨ex, rfl⟩ := h9
    rw [ex]
    exact V_ireturn dX0_lose_27 rfl (hQ _ _ ⟨_, rfl, ⟨by rw [hF]; rfl, by rw [hF]; exact XY_XR hMF (XY_wr hy (by omega))⟩⟩)
  have L1 : ∀ (j : Nat) (hj : j < 4) (e : s = nI j) (h0 : ¬ X 39 j = 0), V l (yX0_lose.cls, cX0_lose, 3, (some .int), [], yX0_lose.name) (rmD 3 0 0, xF0, Q, xX0) 10 [some (.ref 0), some (.int s), none] [] (wX X) 0 0 := by
    intro j hj e h0
    subst e
    have hin : nI 0 ≤ nI j ∧ nI j ≤ nI 3 := ⟨nI_le (Nat.zero_le _) (by omega), nI_le (by omega) (by decide)⟩
    have hF : loseP (nI j) G = (G 41 j, mwr G 39 j (nI 0)) := by unfold loseP; rw [if_pos hin, vN_nI (by omega), if_neg (by rw [← g39]; exact h0)]
    have hMF : MI (mwr G 39 j (nI 0)) := by have z := MI_lose hM (nI j); rw [hF] at z; exact z
    have hr := XY_SR hy hM hj h0
    refine V_aload_n dX0_lose_10 rfl ?_
    refine V_getf (i := 23) k_X0 dX0_lose_11 (by decide) q250 (wX_obj _) rfl ?_
    refine V_iload_n dX0_lose_14 rfl ?_
    refine Vx_aa_sheets dX0_lose_15 rfl hj ?_
    refine V_getfN (i := 0) k_X4 dX0_lose_16 (by decide) (nw q222 rfl) (sh_ob hr) rfl ?_
    refine V_ifnonnull (tgt := 28) dX0_lose_19 (by decide) ?_
    refine V_aload_n dX0_lose_28 rfl ?_
    refine V_getf (i := 23) k_X0 dX0_lose_29 (by decide) q250 (wX_obj _) rfl ?_
    refine V_iload_n dX0_lose_32 rfl ?_
    refine Vx_aa_sheets dX0_lose_33 rfl hj ?_
    refine Vq_v (x_shsz l hr) dX0_lose_34 (lw_V q768 q769 q770 q102 q771) hv_X4_size (by decide) (sh_ob hr) cl_X4 rfl rfl (Nat.le_of_ble_eq_true rfl) ?_
    refine V_istore_n dX0_lose_37 rfl (Nat.le_of_ble_eq_true rfl) (Nat.le_of_ble_eq_true rfl) ?_
    refine V_aload_n dX0_lose_38 rfl ?_
    refine V_getf (i := 23) k_X0 dX0_lose_39 (by decide) q250 (wX_obj _) rfl ?_
    refine V_iload_n dX0_lose_42 rfl ?_
    refine Vx_aa_sheets dX0_lose_43 rfl hj ?_
    refine V_null dX0_lose_44 ?_
    refine V_putfN (i := 0) k_X4 dX0_lose_45 (by decide) (nw q222 rfl) rfl (sh_ob hr) (Nat.le_of_ble_eq_true rfl) (fun _ => rfl) (fun _ => rfl) ?_
    refine V_sub (sh_lose hj) ?_
    refine V_iload_n dX0_lose_48 rfl ?_
    exact V_ireturn dX0_lose_49 rfl (hQ _ _ ⟨_, rfl, ⟨by rw [hF, ← g41], by rw [hF]; exact XY_XR hMF (XY_wr hy (by omega))⟩⟩)
  refine V_iload_n dX0_lose_0 rfl ?_
  refine Vs_callIF (s_isSheet l _) dX0_lose_1 (lw_S q761 q762 q95 q763) hs_X0_isSheet (by decide) rfl (Nat.le_of_ble_eq_true rfl) ?_
  refine V_if_neB (tgt := 10) dX0_lose_4 (by decide) (fun c4 => ?_) (fun c4 => ?_)
  · obtain ⟨j, hj, e⟩ := bd_I (by decide) c4
    by_cases h0 : X 39 j = 0
    · exact L0 j (by omega) e h0
    · exact L1 j (by omega) e h0
  · refine V_bipush dX0_lose_7 lb_m2 ?_
    exact V_ireturn dX0_lose_9 rfl (hQ _ _ ⟨_, rfl, ⟨by unfold loseP; rw [if_neg c4], by unfold loseP; rw [if_neg c4]; exact h⟩⟩)
set_option maxHeartbeats 400000 in
theorem x_put (l : Launch) (hl : l.stackTraces = false) {G X : xSt} (h : XR G X) (hM : MI G) (hF4 : F40 G) (s f i v : Int32) : Cz l yX0_put (wsW_ yX0_put cX0_put 6 (some .int) [(40, 54, 55, 396), (40, 54, 63, 398)]) 3 3 310 F36 [.ref 0, .int s, .int f, .int i, .int v] X (fun r X' => ∃ x, r = some (.int x) ∧ x = (putP s f i v G).1 ∧ XR (putP s f i v G).2 X') := by
  refine Cz_startW (ls := [some (.ref 0), some (.int s), some (.int f), some (.int i), some (.int v), none]) (by decide) rfl (Nat.le_of_ble_eq_true rfl) F36_lo ?_
  intro Q hQ
  have hy := XR_XY h
  obtain ⟨g39, g40, g41, g42⟩ := XY_sh hy
  have L0 : ∀ (j t : Nat) (hj : j < 4) (ht : t ≤ 2) (e1 : s = nI j) (e2 : f = nI t) (h0 : X 39 j = 0), V l (yX0_put.cls, cX0_put, 6, (some .int), [(40, 54, 55, 396), (40, 54, 63, 398)], yX0_put.name) (rmD 3 3 310, F36, Q, xX0) 22 [some (.ref 0), some (.int s), some (.int f), some (.int i), some (.int v), none] [] (wX X) 3 310 := by
    intro j t hj ht e1 e2 h0
    subst e1
    subst e2
    have hin : nI 0 ≤ nI j ∧ nI j ≤ nI 3 := ⟨nI_le (Nat.zero_le _) (by omega), nI_le (by omega) (by decide)⟩
    have hit : nI 0 ≤ nI t ∧ nI t ≤ nI 2 := ⟨nI_le (Nat.zero_le _) (by omega), nI_le (by omega) (by decide)⟩
    have hL : lackN G j (nI t) i = 1 := by unfold lackN; rw [if_pos (by rw [← g39]; exact h0)]
    have hF : putP (nI j) (nI t) i v G = meetsF 1 G := by unfold putP; rw [if_pos hin, if_pos hit, vN_nI (by omega), hL]; rw [if_neg (show ¬ nI 1 ≤ 0 by decide +kernel)]
    have hMF : MI (meetsF 1 G).2 := by have z := MI_put hM (nI j) (nI t) i v; rw [hF] at z; exact z
    refine V_aload_n dX0_put_22 rfl ?_
    refine V_getf (i := 23) k_X0 dX0_put_23 (by decide) q250 (wX_obj _) rfl ?_
    refine V_iload_n dX0_put_26 rfl ?_
    refine Vx_aa_sheets dX0_put_27 rfl hj ?_
    refine V_getfN (i := 0) k_X4 dX0_put_28 (by decide) (nw q222 rfl) (sh_nul hj h0) rfl ?_
    refine V_ifnonnullN dX0_put_31 ?_
    refine V_aload_n dX0_put_34 rfl ?_
    refine V_iconst dX0_put_35 li_1 ?_
    refine Vz_vI (k' := 0) (n' := 0) (x_met l (X := X) 1) dX0_put_36 (lw_V q764 q766 qs8 q95 q767) hv_X0_met (by decide) (wX_obj _) cl_X0 rfl rfl (Nat.le_of_ble_eq_true rfl) (fun _ h => h.elim) (fun _ _ => xok0) (fun _ _ => xok0) ⟨Nat.zero_le _, Nat.zero_le _⟩ (fun x9 X9 h9 => ?_)
    obtain ⟨ex, rfl⟩ := h9
    rw [ex]
    exact V_ireturn dX0_put_39 rfl (hQ _ _ ⟨_, rfl, ⟨by rw [hF]; rfl, by rw [hF]; exact XY_XR hMF (XY_wr hy (by omega))⟩⟩)
  have L1 : ∀ (j t : Nat) (hj : j < 4) (ht : t ≤ 2) (e1 : s = nI j) (e2 : f = nI t) (h0 : ¬ X 39 j = 0) (hK : t ≠ fm X j), V l (yX0_put.cls, cX0_put, 6, (some .int), [(40, 54, 55, 396), (40, 54, 63, 398)], yX0_put.name) (rmD 3 3 310, F36, Q, xX0) 22 [some (.ref 0), some (.int s), some (.int f), some (.int i), some (.int v), none] [] (wX X) 3 310 := by
    intro j t hj ht e1 e2 h0 hK
    subst e1
    subst e2
    have hin : nI 0 ≤ nI j ∧ nI j ≤ nI 3 := ⟨nI_le (Nat.zero_le _) (by omega), nI_le (by omega) (by decide)⟩
    have hit : nI 0 ≤ nI t ∧ nI t ≤ nI 2 := ⟨nI_le (Nat.zero_le _) (by omega), nI_le (by omega) (by decide)⟩
    have hr := XY_SR hy hM hj h0
    have e40 : G 40 j = nI (fm X j) := by rw [← g40]; exact fm_bd (by rw [g40]; exact hF4 j hj)
    have h3 := fm_3 X j
    have hne : ¬ G 40 j = nI t := fun z => hK ((nI_eq (by omega) (by omega)).mp (z.symm.trans e40))
    have hL : lackN G j (nI t) i = 3 := by unfold lackN; rw [if_neg (by rw [← g39]; exact h0), if_neg hne]
    have hF : putP (nI j) (nI t) i v G = meetsF 3 G := by unfold putP; rw [if_pos hin, if_pos hit, vN_nI (by omega), hL]; rw [if_neg (show ¬ nI 3 ≤ 0 by decide +kernel)]
    have hMF : MI (meetsF 3 G).2 := by have z := MI_put hM (nI j) (nI t) i v; rw [hF] at z; exact z
    refine V_aload_n dX0_put_22 rfl ?_
    refine V_getf (i := 23) k_X0 dX0_put_23 (by decide) q250 (wX_obj _) rfl ?_
    refine V_iload_n dX0_put_26 rfl ?_
    refine Vx_aa_sheets dX0_put_27 rfl hj ?_
    refine V_getfN (i := 0) k_X4 dX0_put_28 (by decide) (nw q222 rfl) (sh_ob hr) rfl ?_
    refine V_ifnonnull (tgt := 40) dX0_put_31 (by decide) ?_
    refine V_aload_n dX0_put_40 rfl ?_
    refine V_getf (i := 23) k_X0 dX0_put_41 (by decide) q250 (wX_obj _) rfl ?_
    refine V_iload_n dX0_put_44 rfl ?_
    refine Vx_aa_sheets dX0_put_45 rfl hj ?_
    refine V_iload_n dX0_put_46 rfl ?_
    refine V_iload_n dX0_put_47 rfl ?_
    refine V_iload dX0_put_48 rfl ?_
    refine V_callV (k' := 0) (n' := 0) (x_shlyC l hl hr hy.1.1 ht hK i v) dX0_put_50 (lw_V q1106 q1107 q1108 q102 q1109) hv_X4_lay (xfit_D (by decide) (by decide) (Nat.le_refl _) (Nat.le_refl _)) (sh_ob hr) cl_X4 rfl rfl (Nat.le_of_ble_eq_true rfl) (fun _ z => z) (okl_c (ok_r (by unfold F36; omega)) (okl_c ok_i (okl_c ok_i (okl_c ok_i (okl_c ok_i (okl_n okl_0)))))) oks_0 (fun _ _ h => h.elim) (fun E9 q9 w9 h9 => ?_)
    obtain ⟨rfl, rfl, rfl⟩ := h9
    refine Vx_catch (tgt := 55) [] ⟨40, 54, 55, 396⟩ [⟨40, 54, 63, 398⟩] rfl (fun z hz => nomatch hz) (by decide) (by decide) q1073 (nw q1085 rfl) rfl ?_
    refine V_astore dX0_put_55 rfl (Nat.le_of_ble_eq_true rfl) (Nat.le_of_ble_eq_true rfl) ?_
    refine V_aload_n dX0_put_57 rfl ?_
    refine V_iconst dX0_put_58 li_3 ?_
    refine Vz_vI (k' := 0) (n' := 0) (x_met l (X := X) 3) dX0_put_59 (lw_V q764 q766 qs8 q95 q767) hv_X0_met (by decide) (wX_obj _) cl_X0 rfl rfl (Nat.le_of_ble_eq_true rfl) (fun _ h => h.elim) (fun _ _ => xok0) (fun _ _ => xok0) ⟨Nat.zero_le _, Nat.zero_le _⟩ (fun x9 X9 h9 => ?_)
    obtain ⟨ex, rfl⟩ := h9
    rw [ex]
    exact V_ireturn dX0_put_62 rfl (hQ _ _ ⟨_, rfl, ⟨by rw [hF]; rfl, by rw [hF]; exact XY_XR hMF (XY_wr hy (by omega))⟩⟩)
  have L2 : ∀ (j t : Nat) (hj : j < 4) (ht : t ≤ 2) (e1 : s = nI j) (e2 : f = nI t) (h0 : ¬ X 39 j = 0) (hK : t = fm X j) (hout : ¬ vp_in i (vN (X 41 j))), V l (yX0_put.cls, cX0_put, 6, (some .int), [(40, 54, 55, 396), (40, 54, 63, 398)], yX0_put.name) (rmD 3 3 310, F36, Q, xX0) 22 [some (.ref 0), some (.int s), some (.int f), some (.int i), some (.int v), none] [] (wX X) 3 310 := by
    intro j t hj ht e1 e2 h0 hK hout
    subst e1
    subst e2
    have hin : nI 0 ≤ nI j ∧ nI j ≤ nI 3 := ⟨nI_le (Nat.zero_le _) (by omega), nI_le (by omega) (by decide)⟩
    have hit : nI 0 ≤ nI t ∧ nI t ≤ nI 2 := ⟨nI_le (Nat.zero_le _) (by omega), nI_le (by omega) (by decide)⟩
    have hr := XY_SR hy hM hj h0
    have e40 : G 40 j = nI (fm X j) := by rw [← g40]; exact fm_bd (by rw [g40]; exact hF4 j hj)
    have hz := sh_z hr
    have hr2 : SR t X j := by rw [hK]; exact hr
    have hnin : ¬ (nI 0 ≤ i ∧ i ≤ G 41 j - nI 1) := fun z => by obtain ⟨m, e, hm, hm6⟩ := bd_in (n := 60) (by decide) (by rw [← g41]; exact hr.2.2.2) z; rw [← g41, hz.1] at hm; exact hout (by rw [e]; exact vp_in_nI ((nI_ltI (by omega) (by omega)).mp hm) (by omega))
    have hL : lackN G j (nI t) i = 2 := by unfold lackN; rw [if_neg (by rw [← g39]; exact h0), if_pos (by rw [e40, hK]), if_neg hnin]
    have hF : putP (nI j) (nI t) i v G = meetsF 2 G := by unfold putP; rw [if_pos hin, if_pos hit, vN_nI (by omega), hL]; rw [if_neg (show ¬ nI 2 ≤ 0 by decide +kernel)]
    have hMF : MI (meetsF 2 G).2 := by have z := MI_put hM (nI j) (nI t) i v; rw [hF] at z; exact z
    refine V_aload_n dX0_put_22 rfl ?_
    refine V_getf (i := 23) k_X0 dX0_put_23 (by decide) q250 (wX_obj _) rfl ?_
    refine V_iload_n dX0_put_26 rfl ?_
    refine Vx_aa_sheets dX0_put_27 rfl hj ?_
    refine V_getfN (i := 0) k_X4 dX0_put_28 (by decide) (nw q222 rfl) (sh_ob hr) rfl ?_
    refine V_ifnonnull (tgt := 40) dX0_put_31 (by decide) ?_
    refine V_aload_n dX0_put_40 rfl ?_
    refine V_getf (i := 23) k_X0 dX0_put_41 (by decide) q250 (wX_obj _) rfl ?_
    refine V_iload_n dX0_put_44 rfl ?_
    refine Vx_aa_sheets dX0_put_45 rfl hj ?_
    refine V_iload_n dX0_put_46 rfl ?_
    refine V_iload_n dX0_put_47 rfl ?_
    refine V_iload dX0_put_48 rfl ?_
    refine V_callV (k' := 0) (n' := 0) (x_shlyI l hl hr2 hy.1.1 i v hout) dX0_put_50 (lw_V q1106 q1107 q1108 q102 q1109) hv_X4_lay (xfit_D (by decide) (by decide) (Nat.le_refl _) (Nat.le_refl _)) (sh_ob hr) cl_X4 rfl rfl (Nat.le_of_ble_eq_true rfl) (fun _ z => z) (okl_c (ok_r (by unfold F36; omega)) (okl_c ok_i (okl_c ok_i (okl_c ok_i (okl_c ok_i (okl_n okl_0)))))) oks_0 (fun _ _ h => h.elim) (fun E9 q9 w9 h9 => ?_)
    obtain ⟨rfl, rfl, rfl⟩ := h9
    refine Vx_catch (tgt := 63) [⟨40, 54, 55, 396⟩] ⟨40, 54, 63, 398⟩ [] rfl (fun z hz => by rcases List.mem_singleton.mp hz with rfl; exact .inr ⟨by decide, _, q1073, by decide⟩) (by decide) (by decide) q1087 (nw q1102 rfl) rfl ?_
    refine V_astore dX0_put_63 rfl (Nat.le_of_ble_eq_true rfl) (Nat.le_of_ble_eq_true rfl) ?_
    refine V_aload_n dX0_put_65 rfl ?_
    refine V_iconst dX0_put_66 li_2 ?_
    refine Vz_vI (k' := 0) (n' := 0) (x_met l (X := X) 2) dX0_put_67 (lw_V q764 q766 qs8 q95 q767) hv_X0_met (by decide) (wX_obj _) cl_X0 rfl rfl (Nat.le_of_ble_eq_true rfl) (fun _ h => h.elim) (fun _ _ => xok0) (fun _ _ => xok0) ⟨Nat.zero_le _, Nat.zero_le _⟩ (fun x9 X9 h9 => ?_)
    obtain ⟨ex, rfl⟩ := h9
    rw [ex]
    exact V_ireturn dX0_put_70 rfl (hQ _ _ ⟨_, rfl, ⟨by rw [hF]; rfl, by rw [hF]; exact XY_XR hMF (XY_wr hy (by omega))⟩⟩)
  have L3 : ∀ (j t : Nat) (hj : j < 4) (ht : t ≤ 2) (e1 : s = nI j) (e2 : f = nI t) (h0 : ¬ X 39 j = 0) (hK : t = fm X j) (m : Nat) (hm : m < vN (X 41 j)) (e : i = nI m), V l (yX0_put.cls, cX0_put, 6, (some .int), [(40, 54, 55, 396), (40, 54, 63, 398)], yX0_put.name) (rmD 3 3 310, F36, Q, xX0) 22 [some (.ref 0), some (.int s), some (.int f), some (.int i), some (.int v), none] [] (wX X) 3 310 := by
    intro j t hj ht e1 e2 h0 hK m hm e
    subst e1
    subst e2
    subst e
    have hin : nI 0 ≤ nI j ∧ nI j ≤ nI 3 := ⟨nI_le (Nat.zero_le _) (by omega), nI_le (by omega) (by decide)⟩
    have hit : nI 0 ≤ nI t ∧ nI t ≤ nI 2 := ⟨nI_le (Nat.zero_le _) (by omega), nI_le (by omega) (by decide)⟩
    have hr := XY_SR hy hM hj h0
    have e40 : G 40 j = nI (fm X j) := by rw [← g40]; exact fm_bd (by rw [g40]; exact hF4 j hj)
    have hz := sh_z hr
    have hr2 : SR t X j := by rw [hK]; exact hr
    have hinm : nI 0 ≤ nI m ∧ nI m ≤ G 41 j - nI 1 := by rw [← g41, hz.1, pk_sub (by omega)]; exact ⟨nI_le (Nat.zero_le _) (by omega), nI_le (by omega) (by omega)⟩
    have hL : lackN G j (nI t) (nI m) = 0 := by unfold lackN; rw [if_neg (by rw [← g39]; exact h0), if_pos (by rw [e40, hK]), if_pos hinm]
    have hF : putP (nI j) (nI t) (nI m) v G = (nI 1, laysF j m v G) := by unfold putP; rw [if_pos hin, if_pos hit, vN_nI (by omega), hL, if_pos (show nI 0 ≤ 0 by decide +kernel), vN_nI (by omega)]
    have hMF : MI ((nI 1, laysF j m v G)).2 := by have z := MI_put hM (nI j) (nI t) (nI m) v; rw [hF] at z; exact z
    have hly : lyN t v = lyV (G 40 j) v := by rw [← g40, lyV_fm, hK]
    refine V_aload_n dX0_put_22 rfl ?_
    refine V_getf (i := 23) k_X0 dX0_put_23 (by decide) q250 (wX_obj _) rfl ?_
    refine V_iload_n dX0_put_26 rfl ?_
    refine Vx_aa_sheets dX0_put_27 rfl hj ?_
    refine V_getfN (i := 0) k_X4 dX0_put_28 (by decide) (nw q222 rfl) (sh_ob hr) rfl ?_
    refine V_ifnonnull (tgt := 40) dX0_put_31 (by decide) ?_
    refine V_aload_n dX0_put_40 rfl ?_
    refine V_getf (i := 23) k_X0 dX0_put_41 (by decide) q250 (wX_obj _) rfl ?_
    refine V_iload_n dX0_put_44 rfl ?_
    refine Vx_aa_sheets dX0_put_45 rfl hj ?_
    refine V_iload_n dX0_put_46 rfl ?_
    refine V_iload_n dX0_put_47 rfl ?_
    refine V_iload dX0_put_48 rfl ?_
    refine Vz_vV (k' := 0) (n' := 0) (x_shly l hr2 hm v) dX0_put_50 (lw_V q1106 q1107 q1108 q102 q1109) hv_X4_lay (by decide) (sh_ob hr) cl_X4 rfl rfl (Nat.le_of_ble_eq_true rfl) (fun _ h => h.elim) (fun _ _ => xok0) (fun _ _ => xok0) ⟨Nat.zero_le _, Nat.zero_le _⟩ (fun X9 h9 => ?_)
    refine V_iconst dX0_put_53 li_1 ?_
    exact V_ireturn dX0_put_54 rfl (hQ _ _ ⟨_, rfl, ⟨by rw [hF], by rw [hF, h9, hly]; exact XY_XR hMF (by unfold laysF; exact XY_wr hy (by omega))⟩⟩)
  refine V_iload_n dX0_put_0 rfl ?_
  refine Vs_callIF (s_isSheet l _) dX0_put_1 (lw_S q761 q762 q95 q763) hs_X0_isSheet (by decide) rfl (Nat.le_of_ble_eq_true rfl) ?_
  refine V_if_eqB (tgt := 19) dX0_put_4 (by decide) (fun c4 => ?_) (fun c4 => ?_)
  · refine V_bipush dX0_put_19 lb_m2 ?_
    exact V_ireturn dX0_put_21 rfl (hQ _ _ ⟨_, rfl, ⟨by unfold putP; rw [if_neg c4], by unfold putP; rw [if_neg c4]; exact h⟩⟩)
  · refine V_iload_n dX0_put_7 rfl ?_
    refine V_i2l dX0_put_8 rfl ?_
    refine V_lconst (v := 0) dX0_put_9 (by rfl) ?_
    refine V_ldc2 dX0_put_10 q743 ?_
    refine Vs_callIF (s_in l _ _ _) dX0_put_13 (lw_S q307 q308 q95 q309) hs_X0_in (by decide) rfl (Nat.le_of_ble_eq_true rfl) ?_
    refine V_if_neB (tgt := 22) dX0_put_16 (by decide) (fun c16 => ?_) (fun c16 => ?_)
    · have c16b : nI 0 ≤ f ∧ f ≤ nI 2 := by rw [l64_0, l64_2] at c16; exact (i64_in _ _ _).mp c16
      obtain ⟨j, hj, e1⟩ := bd_I (by decide) c4
      obtain ⟨t, ht, e2⟩ := bd_I (by decide) c16b
      by_cases h0 : X 39 j = 0
      · exact L0 j t (by omega) ht e1 e2 h0
      · by_cases hK : t = fm X j
        · by_cases hout : vp_in i (vN (X 41 j))
          · obtain ⟨m, hm, e⟩ := vp_in_of hout (by have := (sh_z (XY_SR hy hM (show j < 4 by omega) h0)).2; omega)
            exact L3 j t (by omega) ht e1 e2 h0 hK m hm e
          · exact L2 j t (by omega) ht e1 e2 h0 hK hout
        · exact L1 j t (by omega) ht e1 e2 h0 hK
    · have c16b : ¬ (nI 0 ≤ f ∧ f ≤ nI 2) := by rw [l64_0, l64_2] at c16; exact fun z => c16 ((i64_in _ _ _).mpr z)
      refine V_bipush dX0_put_19 lb_m2 ?_
      exact V_ireturn dX0_put_21 rfl (hQ _ _ ⟨_, rfl, ⟨by unfold putP; rw [if_pos c4, if_neg c16b], by unfold putP; rw [if_pos c4, if_neg c16b]; exact h⟩⟩)
set_option maxHeartbeats 400000 in
theorem x_get (l : Launch) (hl : l.stackTraces = false) {G X : xSt} (h : XR G X) (hM : MI G) (hF4 : F40 G) (s f i : Int32) : Cz l yX0_get (wsW_ yX0_get cX0_get 5 (some .int) [(40, 51, 52, 396), (40, 51, 60, 398)]) 3 3 310 F36 [.ref 0, .int s, .int f, .int i] X (fun r X' => ∃ x, r = some (.int x) ∧ x = (getP s f i G).1 ∧ XR (getP s f i G).2 X') := by
  refine Cz_startW (ls := [some (.ref 0), some (.int s), some (.int f), some (.int i), none]) (by decide) rfl (Nat.le_of_ble_eq_true rfl) F36_lo ?_
  intro Q hQ
  have hy := XR_XY h
  obtain ⟨g39, g40, g41, g42⟩ := XY_sh hy
  have L0 : ∀ (j t : Nat) (hj : j < 4) (ht : t ≤ 2) (e1 : s = nI j) (e2 : f = nI t) (h0 : X 39 j = 0), V l (yX0_get.cls, cX0_get, 5, (some .int), [(40, 51, 52, 396), (40, 51, 60, 398)], yX0_get.name) (rmD 3 3 310, F36, Q, xX0) 22 [some (.ref 0), some (.int s), some (.int f), some (.int i), none] [] (wX X) 3 310 := by
    intro j t hj ht e1 e2 h0
    subst e1
    subst e2
    have hin : nI 0 ≤ nI j ∧ nI j ≤ nI 3 := ⟨nI_le (Nat.zero_le _) (by omega), nI_le (by omega) (by decide)⟩
    have hit : nI 0 ≤ nI t ∧ nI t ≤ nI 2 := ⟨nI_le (Nat.zero_le _) (by omega), nI_le (by omega) (by decide)⟩
    have hL : lackN G j (nI t) i = 1 := by unfold lackN; rw [if_pos (by rw [← g39]; exact h0)]
    have hF : getP (nI j) (nI t) i G = (-2147483648, mwr G 44 0 (nI 1)) := by unfold getP; rw [if_pos hin, if_pos hit, vN_nI (by omega), hL]; rw [if_neg (show ¬ nI 1 ≤ 0 by decide +kernel)]
    have hMF : MI ((-2147483648, mwr G 44 0 (nI 1))).2 := by have z := MI_get hM (nI j) (nI t) i; rw [hF] at z; exact z
    refine V_aload_n dX0_get_22 rfl ?_
    refine V_getf (i := 23) k_X0 dX0_get_23 (by decide) q250 (wX_obj _) rfl ?_
    refine V_iload_n dX0_get_26 rfl ?_
    refine Vx_aa_sheets dX0_get_27 rfl hj ?_
    refine V_getfN (i := 0) k_X4 dX0_get_28 (by decide) (nw q222 rfl) (sh_nul hj h0) rfl ?_
    refine V_ifnonnullN dX0_get_31 ?_
    refine V_aload_n dX0_get_34 rfl ?_
    refine V_iconst dX0_get_35 li_1 ?_
    refine Vz_vI (k' := 0) (n' := 0) (x_lowest l (X := X) 1) dX0_get_36 (lw_V q1115 q1117 qs39 q95 q1118) hv_X0_lowest (by decide) (wX_obj _) cl_X0 rfl rfl (Nat.le_of_ble_eq_true rfl) (fun _ h => h.elim) (fun _ _ => xok0) (fun _ _ => xok0) ⟨Nat.zero_le _, Nat.zero_le _⟩ (fun x9 X9 h9 => ?_)
    obtain ⟨ex, rfl⟩ := h9
    rw [ex]
    exact V_ireturn dX0_get_39 rfl (hQ _ _ ⟨_, rfl, ⟨by rw [hF], by rw [hF]; exact XY_XR hMF (XY_wr hy (by omega))⟩⟩)
  have L1 : ∀ (j t : Nat) (hj : j < 4) (ht : t ≤ 2) (e1 : s = nI j) (e2 : f = nI t) (h0 : ¬ X 39 j = 0) (hK : t ≠ fm X j), V l (yX0_get.cls, cX0_get, 5, (some .int), [(40, 51, 52, 396), (40, 51, 60, 398)], yX0_get.name) (rmD 3 3 310, F36, Q, xX0) 22 [some (.ref 0), some (.int s), some (.int f), some (.int i), none] [] (wX X) 3 310 := by
    intro j t hj ht e1 e2 h0 hK
    subst e1
    subst e2
    have hin : nI 0 ≤ nI j ∧ nI j ≤ nI 3 := ⟨nI_le (Nat.zero_le _) (by omega), nI_le (by omega) (by decide)⟩
    have hit : nI 0 ≤ nI t ∧ nI t ≤ nI 2 := ⟨nI_le (Nat.zero_le _) (by omega), nI_le (by omega) (by decide)⟩
    have hr := XY_SR hy hM hj h0
    have e40 : G 40 j = nI (fm X j) := by rw [← g40]; exact fm_bd (by rw [g40]; exact hF4 j hj)
    have h3 := fm_3 X j
    have hne : ¬ G 40 j = nI t := fun z => hK ((nI_eq (by omega) (by omega)).mp (z.symm.trans e40))
    have hL : lackN G j (nI t) i = 3 := by unfold lackN; rw [if_neg (by rw [← g39]; exact h0), if_neg hne]
    have hF : getP (nI j) (nI t) i G = (-2147483648, mwr G 44 0 (nI 3)) := by unfold getP; rw [if_pos hin, if_pos hit, vN_nI (by omega), hL]; rw [if_neg (show ¬ nI 3 ≤ 0 by decide +kernel)]
    have hMF : MI ((-2147483648, mwr G 44 0 (nI 3))).2 := by have z := MI_get hM (nI j) (nI t) i; rw [hF] at z; exact z
    refine V_aload_n dX0_get_22 rfl ?_
    refine V_getf (i := 23) k_X0 dX0_get_23 (by decide) q250 (wX_obj _) rfl ?_
    refine V_iload_n dX0_get_26 rfl ?_
    refine Vx_aa_sheets dX0_get_27 rfl hj ?_
    refine V_getfN (i := 0) k_X4 dX0_get_28 (by decide) (nw q222 rfl) (sh_ob hr) rfl ?_
    refine V_ifnonnull (tgt := 40) dX0_get_31 (by decide) ?_
    refine V_aload_n dX0_get_40 rfl ?_
    refine V_getf (i := 23) k_X0 dX0_get_41 (by decide) q250 (wX_obj _) rfl ?_
    refine V_iload_n dX0_get_44 rfl ?_
    refine Vx_aa_sheets dX0_get_45 rfl hj ?_
    refine V_iload_n dX0_get_46 rfl ?_
    refine V_iload_n dX0_get_47 rfl ?_
    refine V_callV (k' := 0) (n' := 0) (x_shitC l hl hr hy.1.1 ht hK i) dX0_get_48 (lw_V q780 q781 q782 q102 q783) hv_X4_item (xfit_D (by decide) (by decide) (Nat.le_refl _) (Nat.le_refl _)) (sh_ob hr) cl_X4 rfl rfl (Nat.le_of_ble_eq_true rfl) (fun _ z => z) (okl_c (ok_r (by unfold F36; omega)) (okl_c ok_i (okl_c ok_i (okl_c ok_i (okl_n okl_0))))) oks_0 (fun _ _ h => h.elim) (fun E9 q9 w9 h9 => ?_)
    obtain ⟨rfl, rfl, rfl⟩ := h9
    refine Vx_catch (tgt := 52) [] ⟨40, 51, 52, 396⟩ [⟨40, 51, 60, 398⟩] rfl (fun z hz => nomatch hz) (by decide) (by decide) q1073 (nw q1085 rfl) rfl ?_
    refine V_astore dX0_get_52 rfl (Nat.le_of_ble_eq_true rfl) (Nat.le_of_ble_eq_true rfl) ?_
    refine V_aload_n dX0_get_54 rfl ?_
    refine V_iconst dX0_get_55 li_3 ?_
    refine Vz_vI (k' := 0) (n' := 0) (x_lowest l (X := X) 3) dX0_get_56 (lw_V q1115 q1117 qs39 q95 q1118) hv_X0_lowest (by decide) (wX_obj _) cl_X0 rfl rfl (Nat.le_of_ble_eq_true rfl) (fun _ h => h.elim) (fun _ _ => xok0) (fun _ _ => xok0) ⟨Nat.zero_le _, Nat.zero_le _⟩ (fun x9 X9 h9 => ?_)
    obtain ⟨ex, rfl⟩ := h9
    rw [ex]
    exact V_ireturn dX0_get_59 rfl (hQ _ _ ⟨_, rfl, ⟨by rw [hF], by rw [hF]; exact XY_XR hMF (XY_wr hy (by omega))⟩⟩)
  have L2 : ∀ (j t : Nat) (hj : j < 4) (ht : t ≤ 2) (e1 : s = nI j) (e2 : f = nI t) (h0 : ¬ X 39 j = 0) (hK : t = fm X j) (hout : ¬ vp_in i (vN (X 41 j))), V l (yX0_get.cls, cX0_get, 5, (some .int), [(40, 51, 52, 396), (40, 51, 60, 398)], yX0_get.name) (rmD 3 3 310, F36, Q, xX0) 22 [some (.ref 0), some (.int s), some (.int f), some (.int i), none] [] (wX X) 3 310 := by
    intro j t hj ht e1 e2 h0 hK hout
    subst e1
    subst e2
    have hin : nI 0 ≤ nI j ∧ nI j ≤ nI 3 := ⟨nI_le (Nat.zero_le _) (by omega), nI_le (by omega) (by decide)⟩
    have hit : nI 0 ≤ nI t ∧ nI t ≤ nI 2 := ⟨nI_le (Nat.zero_le _) (by omega), nI_le (by omega) (by decide)⟩
    have hr := XY_SR hy hM hj h0
    have e40 : G 40 j = nI (fm X j) := by rw [← g40]; exact fm_bd (by rw [g40]; exact hF4 j hj)
    have hz := sh_z hr
    have hr2 : SR t X j := by rw [hK]; exact hr
    have hnin : ¬ (nI 0 ≤ i ∧ i ≤ G 41 j - nI 1) := fun z => by obtain ⟨m, e, hm, hm6⟩ := bd_in (n := 60) (by decide) (by rw [← g41]; exact hr.2.2.2) z; rw [← g41, hz.1] at hm; exact hout (by rw [e]; exact vp_in_nI ((nI_ltI (by omega) (by omega)).mp hm) (by omega))
    have hL : lackN G j (nI t) i = 2 := by unfold lackN; rw [if_neg (by rw [← g39]; exact h0), if_pos (by rw [e40, hK]), if_neg hnin]
    have hF : getP (nI j) (nI t) i G = (-2147483648, mwr G 44 0 (nI 2)) := by unfold getP; rw [if_pos hin, if_pos hit, vN_nI (by omega), hL]; rw [if_neg (show ¬ nI 2 ≤ 0 by decide +kernel)]
    have hMF : MI ((-2147483648, mwr G 44 0 (nI 2))).2 := by have z := MI_get hM (nI j) (nI t) i; rw [hF] at z; exact z
    refine V_aload_n dX0_get_22 rfl ?_
    refine V_getf (i := 23) k_X0 dX0_get_23 (by decide) q250 (wX_obj _) rfl ?_
    refine V_iload_n dX0_get_26 rfl ?_
    refine Vx_aa_sheets dX0_get_27 rfl hj ?_
    refine V_getfN (i := 0) k_X4 dX0_get_28 (by decide) (nw q222 rfl) (sh_ob hr) rfl ?_
    refine V_ifnonnull (tgt := 40) dX0_get_31 (by decide) ?_
    refine V_aload_n dX0_get_40 rfl ?_
    refine V_getf (i := 23) k_X0 dX0_get_41 (by decide) q250 (wX_obj _) rfl ?_
    refine V_iload_n dX0_get_44 rfl ?_
    refine Vx_aa_sheets dX0_get_45 rfl hj ?_
    refine V_iload_n dX0_get_46 rfl ?_
    refine V_iload_n dX0_get_47 rfl ?_
    refine V_callV (k' := 0) (n' := 0) (x_shitI l hl hr2 hy.1.1 i hout) dX0_get_48 (lw_V q780 q781 q782 q102 q783) hv_X4_item (xfit_D (by decide) (by decide) (Nat.le_refl _) (Nat.le_refl _)) (sh_ob hr) cl_X4 rfl rfl (Nat.le_of_ble_eq_true rfl) (fun _ z => z) (okl_c (ok_r (by unfold F36; omega)) (okl_c ok_i (okl_c ok_i (okl_c ok_i (okl_n okl_0))))) oks_0 (fun _ _ h => h.elim) (fun E9 q9 w9 h9 => ?_)
    obtain ⟨rfl, rfl, rfl⟩ := h9
    refine Vx_catch (tgt := 60) [⟨40, 51, 52, 396⟩] ⟨40, 51, 60, 398⟩ [] rfl (fun z hz => by rcases List.mem_singleton.mp hz with rfl; exact .inr ⟨by decide, _, q1073, by decide⟩) (by decide) (by decide) q1087 (nw q1102 rfl) rfl ?_
    refine V_astore dX0_get_60 rfl (Nat.le_of_ble_eq_true rfl) (Nat.le_of_ble_eq_true rfl) ?_
    refine V_aload_n dX0_get_62 rfl ?_
    refine V_iconst dX0_get_63 li_2 ?_
    refine Vz_vI (k' := 0) (n' := 0) (x_lowest l (X := X) 2) dX0_get_64 (lw_V q1115 q1117 qs39 q95 q1118) hv_X0_lowest (by decide) (wX_obj _) cl_X0 rfl rfl (Nat.le_of_ble_eq_true rfl) (fun _ h => h.elim) (fun _ _ => xok0) (fun _ _ => xok0) ⟨Nat.zero_le _, Nat.zero_le _⟩ (fun x9 X9 h9 => ?_)
    obtain ⟨ex, rfl⟩ := h9
    rw [ex]
    exact V_ireturn dX0_get_67 rfl (hQ _ _ ⟨_, rfl, ⟨by rw [hF], by rw [hF]; exact XY_XR hMF (XY_wr hy (by omega))⟩⟩)
  have L3 : ∀ (j t : Nat) (hj : j < 4) (ht : t ≤ 2) (e1 : s = nI j) (e2 : f = nI t) (h0 : ¬ X 39 j = 0) (hK : t = fm X j) (m : Nat) (hm : m < vN (X 41 j)) (e : i = nI m), V l (yX0_get.cls, cX0_get, 5, (some .int), [(40, 51, 52, 396), (40, 51, 60, 398)], yX0_get.name) (rmD 3 3 310, F36, Q, xX0) 22 [some (.ref 0), some (.int s), some (.int f), some (.int i), none] [] (wX X) 3 310 := by
    intro j t hj ht e1 e2 h0 hK m hm e
    subst e1
    subst e2
    subst e
    have hin : nI 0 ≤ nI j ∧ nI j ≤ nI 3 := ⟨nI_le (Nat.zero_le _) (by omega), nI_le (by omega) (by decide)⟩
    have hit : nI 0 ≤ nI t ∧ nI t ≤ nI 2 := ⟨nI_le (Nat.zero_le _) (by omega), nI_le (by omega) (by decide)⟩
    have hr := XY_SR hy hM hj h0
    have e40 : G 40 j = nI (fm X j) := by rw [← g40]; exact fm_bd (by rw [g40]; exact hF4 j hj)
    have hz := sh_z hr
    have hr2 : SR t X j := by rw [hK]; exact hr
    have hinm : nI 0 ≤ nI m ∧ nI m ≤ G 41 j - nI 1 := by rw [← g41, hz.1, pk_sub (by omega)]; exact ⟨nI_le (Nat.zero_le _) (by omega), nI_le (by omega) (by omega)⟩
    have hL : lackN G j (nI t) (nI m) = 0 := by unfold lackN; rw [if_neg (by rw [← g39]; exact h0), if_pos (by rw [e40, hK]), if_pos hinm]
    have hF : getP (nI j) (nI t) (nI m) G = (G 42 (60 * j + m), G) := by unfold getP; rw [if_pos hin, if_pos hit, vN_nI (by omega), hL, if_pos (show nI 0 ≤ 0 by decide +kernel), vN_nI (by omega)]
    have hMF : MI ((G 42 (60 * j + m), G)).2 := by have z := MI_get hM (nI j) (nI t) (nI m); rw [hF] at z; exact z
    refine V_aload_n dX0_get_22 rfl ?_
    refine V_getf (i := 23) k_X0 dX0_get_23 (by decide) q250 (wX_obj _) rfl ?_
    refine V_iload_n dX0_get_26 rfl ?_
    refine Vx_aa_sheets dX0_get_27 rfl hj ?_
    refine V_getfN (i := 0) k_X4 dX0_get_28 (by decide) (nw q222 rfl) (sh_ob hr) rfl ?_
    refine V_ifnonnull (tgt := 40) dX0_get_31 (by decide) ?_
    refine V_aload_n dX0_get_40 rfl ?_
    refine V_getf (i := 23) k_X0 dX0_get_41 (by decide) q250 (wX_obj _) rfl ?_
    refine V_iload_n dX0_get_44 rfl ?_
    refine Vx_aa_sheets dX0_get_45 rfl hj ?_
    refine V_iload_n dX0_get_46 rfl ?_
    refine V_iload_n dX0_get_47 rfl ?_
    refine Vq_v (x_shit l hr2 hm) dX0_get_48 (lw_V q780 q781 q782 q102 q783) hv_X4_item (by decide) (sh_ob hr) cl_X4 rfl rfl (Nat.le_of_ble_eq_true rfl) ?_
    exact V_ireturn dX0_get_51 rfl (hQ _ _ ⟨_, rfl, ⟨by rw [hF, ← g42], by rw [hF]; exact h⟩⟩)
  refine V_iload_n dX0_get_0 rfl ?_
  refine Vs_callIF (s_isSheet l _) dX0_get_1 (lw_S q761 q762 q95 q763) hs_X0_isSheet (by decide) rfl (Nat.le_of_ble_eq_true rfl) ?_
  refine V_if_eqB (tgt := 19) dX0_get_4 (by decide) (fun c4 => ?_) (fun c4 => ?_)
  · refine V_ldc dX0_get_19 q1114 ?_
    exact V_ireturn dX0_get_21 rfl (hQ _ _ ⟨_, rfl, ⟨by unfold getP; rw [if_neg c4], by unfold getP; rw [if_neg c4]; exact h⟩⟩)
  · refine V_iload_n dX0_get_7 rfl ?_
    refine V_i2l dX0_get_8 rfl ?_
    refine V_lconst (v := 0) dX0_get_9 (by rfl) ?_
    refine V_ldc2 dX0_get_10 q743 ?_
    refine Vs_callIF (s_in l _ _ _) dX0_get_13 (lw_S q307 q308 q95 q309) hs_X0_in (by decide) rfl (Nat.le_of_ble_eq_true rfl) ?_
    refine V_if_neB (tgt := 22) dX0_get_16 (by decide) (fun c16 => ?_) (fun c16 => ?_)
    · have c16b : nI 0 ≤ f ∧ f ≤ nI 2 := by rw [l64_0, l64_2] at c16; exact (i64_in _ _ _).mp c16
      obtain ⟨j, hj, e1⟩ := bd_I (by decide) c4
      obtain ⟨t, ht, e2⟩ := bd_I (by decide) c16b
      by_cases h0 : X 39 j = 0
      · exact L0 j t (by omega) ht e1 e2 h0
      · by_cases hK : t = fm X j
        · by_cases hout : vp_in i (vN (X 41 j))
          · obtain ⟨m, hm, e⟩ := vp_in_of hout (by have := (sh_z (XY_SR hy hM (show j < 4 by omega) h0)).2; omega)
            exact L3 j t (by omega) ht e1 e2 h0 hK m hm e
          · exact L2 j t (by omega) ht e1 e2 h0 hK hout
        · exact L1 j t (by omega) ht e1 e2 h0 hK
    · have c16b : ¬ (nI 0 ≤ f ∧ f ≤ nI 2) := by rw [l64_0, l64_2] at c16; exact fun z => c16 ((i64_in _ _ _).mpr z)
      refine V_ldc dX0_get_19 q1114 ?_
      exact V_ireturn dX0_get_21 rfl (hQ _ _ ⟨_, rfl, ⟨by unfold getP; rw [if_pos c4, if_neg c16b], by unfold getP; rw [if_pos c4, if_neg c16b]; exact h⟩⟩)
set_option maxHeartbeats 800000 in
theorem x_sheetJ (l : Launch) (hl : l.stackTraces = false) {G X : xSt} (h : XR G X) (hM : MI G) (j : Nat) (hj : j < 4) (f n : Int32) : Cz l yX0_sheet (wsW_ yX0_sheet cX0_sheet 5 (some .int) [(28, 43, 44, 390)]) 3 3 310 (sF j) [.ref 0, .int (nI j), .int f, .int n] X (fun r X' => ∃ x, r = some (.int x) ∧ x = (sheetP (nI j) f n G).1 ∧ XR (sheetP (nI j) f n G).2 X') := by
  refine Cz_startW (ls := [some (.ref 0), some (.int (nI j)), some (.int f), some (.int n), none]) (by decide) rfl (Nat.le_of_ble_eq_true rfl) (sF_lo hj) ?_
  intro Q hQ
  have hy := XR_XY h
  obtain ⟨g39, g40, g41, g42⟩ := XY_sh hy
  have hin : nI 0 ≤ nI j ∧ nI j ≤ nI 3 := ⟨nI_le (Nat.zero_le _) (by omega), nI_le (by omega) (by decide)⟩
  have hcb := hy.1.1
  have L28 : ∀ (K N : Nat) (hK : K ≤ 2) (hN : N ≤ 60) (e1 : f = nI K) (e2 : n = nI N) (u : Value) (hu : ∀ (a : Nat), a < 900 → u = .ref a → False), V l (yX0_sheet.cls, cX0_sheet, 5, (some .int), [(28, 43, 44, 390)], yX0_sheet.name) (rmD 3 3 310, (sF j), Q, xX0) 28 [some (.ref 0), some (.int (nI j)), some (.int f), some (.int n), none] [] (upw (wX (mwr X 39 j (nI 0))) (768 + j) (.inr (6, true, [u]))) 3 310 := by
    intro K N hK hN e1 e2 u hu
    subst e1
    subst e2
    have hit : nI 0 ≤ nI K ∧ nI K ≤ nI 2 := ⟨nI_le (Nat.zero_le _) (by omega), nI_le (by omega) (by decide)⟩
    have hF : sheetP (nI j) (nI K) (nI N) G = (nI N, sheetT j (nI K) (nI N) G) := by unfold sheetP; rw [if_pos hin, if_pos hit, if_pos (nI_le hN (by decide)), if_pos (show 0 ≤ nI N from nI_le (Nat.zero_le _) (by omega)), vN_nI (by omega)]
    have hMF : MI (sheetT j (nI K) (nI N) G) := by have z := MI_sheet hM (nI j) (nI K) (nI N); rw [hF] at z; exact z
    refine V_aload_n dX0_sheet_28 rfl ?_
    refine V_getf (i := 23) k_X0 dX0_sheet_29 (by decide) q250 ((upw_ne (by omega)).trans (wX_obj _)) rfl ?_
    refine V_iload_n dX0_sheet_32 rfl ?_
    refine V_aald dX0_sheet_33 rfl ((upw_ne (by omega)).trans (wX_sheets _)) (vp_in_nI hj (by decide)) (by rw [nI_clamp (by omega)]) ?_
    refine V_iload_n dX0_sheet_34 rfl ?_
    refine V_iload_n dX0_sheet_35 rfl ?_
    have hcz : CB (mwr X 39 j (nI 0)) := CB_of (fun q => mwr_R _ _ _ (by have := @szr_b q; omega)) hcb
    have hcell : ∀ n c, (upw (wX (mwr X 39 j (nI 0))) (768 + j) (.inr (6, true, [u]))) n = some c → xnr (832 + j) c := by
      intro n c hc
      by_cases e : n = 768 + j
      · rw [e, upw_self] at hc
        cases hc
        exact xnr_o (nrc (hu (832 + j) (by omega)) nr0)
      · rw [upw_ne e] at hc
        exact wX_nr (X := mwr X 39 j (nI 0)) hcz.2 (tgt_sh hj (mwr_s _ _ _ _)) hc
    refine V_callS (k' := 0) (n' := 0) (x_rowOf l hK ((upw_ne (by omega)).trans (wX_row0 _ hj (mwr_s _ _ _ _))) hcell hN (by omega)) dX0_sheet_36 (lw_S q1061 q1062 q95 q1063) hs_X0_rowOf (xfit_D (by decide) (by decide) (by decide) (by decide)) rfl (Nat.le_of_ble_eq_true rfl) (fun n e => .inl e) (okl_c (ok_r (by omega)) (okl_c ok_i (okl_c ok_i (okl_c ok_i (okl_n okl_0))))) (oks_c (ok_r (by omega)) oks_0) (fun r w1 g1 => ?_) (fun _ _ _ h => h.elim)
    obtain ⟨rfl, rfl⟩ := g1
    refine V_putfN (i := 0) k_X4 dX0_sheet_39 (by decide) (nw q222 rfl) rfl ((upw_ne (by omega)).trans upw_self) (Nat.le_of_ble_eq_true rfl) (fun _ => rfl) (fun _ => rfl) ?_
    refine V_w (w2 := wX (sheetT j (nI K) (nI N) X)) (sh_new hj hK hN) ?_
    refine V_iload_n dX0_sheet_42 rfl ?_
    exact V_ireturn dX0_sheet_43 rfl (hQ _ _ ⟨_, rfl, ⟨by rw [hF], by rw [hF]; exact XY_XR hMF (XY_sheetT hy _ _ _)⟩⟩)
  have L28n : ∀ (K : Nat) (hK : K ≤ 2) (e1 : f = nI K) (h0 : n < 0) (hn : n ≤ nI 60), V l (yX0_sheet.cls, cX0_sheet, 5, (some .int), [(28, 43, 44, 390)], yX0_sheet.name) (rmD 3 3 310, (sF j), Q, xX0) 28 [some (.ref 0), some (.int (nI j)), some (.int f), some (.int n), none] [] (wX X) 3 310 := by
    intro K hK e1 h0 hn
    subst e1
    have hit : nI 0 ≤ nI K ∧ nI K ≤ nI 2 := ⟨nI_le (Nat.zero_le _) (by omega), nI_le (by omega) (by decide)⟩
    have hF : sheetP (nI j) (nI K) n G = meetsF 5 G := by unfold sheetP; rw [if_pos hin, if_pos hit, if_pos hn, if_neg (Int32.not_le.mpr h0)]
    have hMF : MI (meetsF 5 G).2 := by have z := MI_sheet hM (nI j) (nI K) n; rw [hF] at z; exact z
    refine V_aload_n dX0_sheet_28 rfl ?_
    refine V_getf (i := 23) k_X0 dX0_sheet_29 (by decide) q250 (wX_obj _) rfl ?_
    refine V_iload_n dX0_sheet_32 rfl ?_
    refine Vx_aa_sheets dX0_sheet_33 rfl hj ?_
    refine V_iload_n dX0_sheet_34 rfl ?_
    refine V_iload_n dX0_sheet_35 rfl ?_
    refine V_callS (k' := 0) (n' := 0) (x_rowOfN l hl hK hcb h0) dX0_sheet_36 (lw_S q1061 q1062 q95 q1063) hs_X0_rowOf (xfit_D (by decide) (by decide) (Nat.le_refl _) (Nat.le_refl _)) rfl (Nat.le_of_ble_eq_true rfl) (fun n e => .inr e) (okl_c (ok_r (by unfold F36; omega)) (okl_c ok_i (okl_c ok_i (okl_c ok_i (okl_n okl_0))))) (oks_c (ok_r (by unfold F36; omega)) oks_0) (fun _ _ h => h.elim) (fun E9 q9 w9 h9 => ?_)
    obtain ⟨rfl, rfl, rfl⟩ := h9
    refine Vx_catch (tgt := 44) [] ⟨28, 43, 44, 390⟩ [] rfl (fun z hz => nomatch hz) (by decide) (by decide) q1032 (nw q1052 rfl) rfl ?_
    refine V_astore dX0_sheet_44 rfl (Nat.le_of_ble_eq_true rfl) (Nat.le_of_ble_eq_true rfl) ?_
    refine V_aload_n dX0_sheet_46 rfl ?_
    refine V_iconst dX0_sheet_47 li_5 ?_
    refine Vz_vI (k' := 0) (n' := 0) (x_met l (X := X) 5) dX0_sheet_48 (lw_V q764 q766 qs8 q95 q767) hv_X0_met (by decide) (wX_obj _) cl_X0 rfl rfl (Nat.le_of_ble_eq_true rfl) (fun _ h => h.elim) (fun _ _ => xok0) (fun _ _ => xok0) ⟨Nat.zero_le _, Nat.zero_le _⟩ (fun x9 X9 h9 => ?_)
    obtain ⟨ex, rfl⟩ := h9
    rw [ex]
    exact V_ireturn dX0_sheet_51 rfl (hQ _ _ ⟨_, rfl, ⟨by rw [hF]; rfl, by rw [hF]; exact XY_XR hMF (XY_wr hy (by omega))⟩⟩)
  refine V_iload_n dX0_sheet_0 rfl ?_
  refine Vs_callIF (s_isSheet l _) dX0_sheet_1 (lw_S q761 q762 q95 q763) hs_X0_isSheet (by decide) rfl (Nat.le_of_ble_eq_true rfl) ?_
  refine V_if_eqB (tgt := 25) dX0_sheet_4 (by decide) (fun c4 => ?_) (fun c4 => ?_)
  · exact absurd hin c4
  · refine V_iload_n dX0_sheet_7 rfl ?_
    refine V_i2l dX0_sheet_8 rfl ?_
    refine V_lconst (v := 0) dX0_sheet_9 (by rfl) ?_
    refine V_ldc2 dX0_sheet_10 q743 ?_
    refine Vs_callIF (s_in l _ _ _) dX0_sheet_13 (lw_S q307 q308 q95 q309) hs_X0_in (by decide) rfl (Nat.le_of_ble_eq_true rfl) ?_
    refine V_if_eqB (tgt := 25) dX0_sheet_16 (by decide) (fun c16 => ?_) (fun c16 => ?_)
    · have c16b : ¬ (nI 0 ≤ f ∧ f ≤ nI 2) := by rw [l64_0, l64_2] at c16; exact fun z => c16 ((i64_in _ _ _).mpr z)
      refine V_bipush dX0_sheet_25 lb_m2 ?_
      exact V_ireturn dX0_sheet_27 rfl (hQ _ _ ⟨_, rfl, ⟨by unfold sheetP; rw [if_pos c4, if_neg c16b], by unfold sheetP; rw [if_pos c4, if_neg c16b]; exact h⟩⟩)
    · have c16b : nI 0 ≤ f ∧ f ≤ nI 2 := by rw [l64_0, l64_2] at c16; exact (i64_in _ _ _).mp c16
      refine V_iload_n dX0_sheet_19 rfl ?_
      refine V_bipush dX0_sheet_20 lb_60 ?_
      refine V_icmp_le (tgt := 28) dX0_sheet_22 (by decide) (fun c22 => ?_) (fun c22 => ?_)
      · obtain ⟨K, hK, e1⟩ := bd_I (by decide) c16b
        by_cases hn0 : 0 ≤ n
        · obtain ⟨N, hN, e2⟩ := bd_I (n := 60) (by decide) ⟨hn0, c22⟩
          by_cases h0 : X 39 j = 0
          · refine V_w (w2 := upw (wX (mwr X 39 j (nI 0))) (768 + j) (.inr (6, true, [.null]))) (by rw [sh_lost hj, mwr_eq (show X 39 j = nI 0 from h0)]) (L28 K N hK hN e1 e2 .null (fun _ _ => nrN))
          · have hr := XY_SR hy hM hj h0
            refine V_aliasO (B := 768 + j) (a := 1537) (b := 832 + j) (i := 0) (sh_ob hr) rfl (wX_far X (by decide)) (.inr (by decide)) (fun n c hc => wX_nr hcb.2 (tgt_hi hcb (by decide)) hc) (nel_c (ne_r (by omega)) (nel_c ne_i (nel_c ne_i (nel_c ne_i (nel_n nel_0))))) nes_0 ?_
            exact V_sub (sh_drop hj) (L28 K N hK hN e1 e2 (.ref 1537) (fun a ha => nrR (a := a) (b := 1537) (by omega)))
        · exact L28n K hK e1 (Int32.not_le.mp hn0) c22
      · refine V_bipush dX0_sheet_25 lb_m2 ?_
        exact V_ireturn dX0_sheet_27 rfl (hQ _ _ ⟨_, rfl, ⟨by unfold sheetP; rw [if_pos c4, if_pos c16b, if_neg c22], by unfold sheetP; rw [if_pos c4, if_pos c16b, if_neg c22]; exact h⟩⟩)
set_option maxHeartbeats 400000 in
theorem x_sheetN (l : Launch) {G X : xSt} (h : XR G X) (s f n : Int32) (hs : ¬ (nI 0 ≤ s ∧ s ≤ nI 3)) : Cz l yX0_sheet (wsW_ yX0_sheet cX0_sheet 5 (some .int) [(28, 43, 44, 390)]) 3 3 310 sG [.ref 0, .int s, .int f, .int n] X (fun r X' => ∃ x, r = some (.int x) ∧ x = (sheetP s f n G).1 ∧ XR (sheetP s f n G).2 X') := by
  refine Cz_startW (ls := [some (.ref 0), some (.int s), some (.int f), some (.int n), none]) (by decide) rfl (Nat.le_of_ble_eq_true rfl) sG_lo ?_
  intro Q hQ
  refine V_iload_n dX0_sheet_0 rfl ?_
  refine Vs_callIF (s_isSheet l _) dX0_sheet_1 (lw_S q761 q762 q95 q763) hs_X0_isSheet (by decide) rfl (Nat.le_of_ble_eq_true rfl) ?_
  refine V_if_eqB (tgt := 25) dX0_sheet_4 (by decide) (fun c4 => ?_) (fun c4 => ?_)
  · refine V_bipush dX0_sheet_25 lb_m2 ?_
    exact V_ireturn dX0_sheet_27 rfl (hQ _ _ ⟨_, rfl, ⟨by unfold sheetP; rw [if_neg c4], by unfold sheetP; rw [if_neg c4]; exact h⟩⟩)
  · exact absurd c4 hs
