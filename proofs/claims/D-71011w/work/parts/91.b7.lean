/-! PromiseTailor's side: copy -/
set_option maxRecDepth 100000
/-- items fit their forms -/
def IV (G : xSt) : Prop := ∀ s q, s < 4 → q < 60 → fits (ftN (fm G s)) (.int (G 42 (60 * s + q))) = true
theorem ft_3 (K : Nat) : ftN K = .byte ∨ ftN K = .short ∨ ftN K = .int := by
  unfold ftN
  by_cases a : K = 0
  · rw [if_pos a]; exact .inl rfl
  · rw [if_neg a]
    by_cases b : K = 1
    · rw [if_pos b]; exact .inr (.inl rfl)
    · rw [if_neg b]; exact .inr (.inr rfl)
theorem ft_prim (K : Nat) : refKind (ftN K) = false := by rcases ft_3 K with e | e | e <;> rw [e] <;> rfl
theorem ft_kn (K : Nat) : (Native.java_lang_System.arraycopy.kindName (ftN K)).toList.length ≤ 12 := by rcases ft_3 K with e | e | e <;> rw [e] <;> decide
theorem ft_ty (K : Nat) : ((refKind (ftN K) != refKind (ftN K)) || (!refKind (ftN K) && ftN K != ftN K)) = false := by rcases ft_3 K with e | e | e <;> rw [e] <;> decide
theorem fits_ly (K : Nat) (v : Int32) : fits (ftN K) (.int (lyN K v)) = true := by
  unfold ftN lyN
  by_cases a : K = 0
  · rw [if_pos a, if_pos a]
    have h1 := Int8.toInt_lt v.toInt8
    have h2 := Int8.le_toInt v.toInt8
    have e1 : (-128 : Int32) ≤ v.toInt8.toInt32 := by rw [Int32.le_iff_toInt_le, Int8.toInt_toInt32, show (-128 : Int32).toInt = -128 from by decide +kernel]; omega
    have e2 : v.toInt8.toInt32 ≤ (127 : Int32) := by rw [Int32.le_iff_toInt_le, Int8.toInt_toInt32, show (127 : Int32).toInt = 127 from by decide +kernel]; omega
    show (decide ((-128 : Int32) ≤ _) && decide (_ ≤ (127 : Int32))) = true
    rw [decide_eq_true e1, decide_eq_true e2]
    rfl
  · rw [if_neg a, if_neg a]
    by_cases b : K = 1
    · rw [if_pos b, if_pos b]
      have h1 := Int16.toInt_lt v.toInt16
      have h2 := Int16.le_toInt v.toInt16
      have e1 : (-32768 : Int32) ≤ v.toInt16.toInt32 := by rw [Int32.le_iff_toInt_le, Int16.toInt_toInt32, show (-32768 : Int32).toInt = -32768 from by decide +kernel]; omega
      have e2 : v.toInt16.toInt32 ≤ (32767 : Int32) := by rw [Int32.le_iff_toInt_le, Int16.toInt_toInt32, show (32767 : Int32).toInt = 32767 from by decide +kernel]; omega
      show (decide ((-32768 : Int32) ≤ _) && decide (_ ≤ (32767 : Int32))) = true
      rw [decide_eq_true e1, decide_eq_true e2]
      rfl
    · rw [if_neg b, if_neg b]; rfl
theorem sh_row {K : Nat} {X : xSt} {s : Nat} (h : SR K X s) : wX X (832 + s) = some (.inl (ftN K, true, vN (X 41 s), cutI (vN (X 41 s)) (fun i => X 42 (60 * s + i)))) := by
  rcases SR_3 h with rfl | rfl | rfl
  · exact sh_row0 h
  · exact sh_row1 h
  · exact sh_row2 h
/-- items of t out of those of s -/
def cp42 (s i t j n : Nat) (S : xSt) (q : Nat) : Int32 := if 60 * t + j ≤ q ∧ q < 60 * t + j + n then S 42 (60 * s + i + (q - (60 * t + j))) else S 42 q
def cpX2 (s i t j n : Nat) (X : xSt) : xSt := fun r q => if r = 42 then cp42 s i t j n X q else X r q
theorem moI_v {s i : Nat} : ∀ n k (S : xSt) (r q : Nat), itF (moI s i) n k S r q = if r = 43 ∧ k ≤ q ∧ q < k + n then S 42 (60 * s + i + q) else S r q
  | 0, k, S, r, q => by rw [if_neg (by omega)]; rfl
  | n + 1, k, S, r, q => by
    show itF (moI s i) n (k + 1) (moI s i k S) r q = _
    rw [moI_v n (k + 1)]
    unfold moI mwr
    by_cases a : r = 43 ∧ k + 1 ≤ q ∧ q < k + 1 + n
    · rw [if_pos a, if_neg (by omega), if_pos (by omega)]
    · rw [if_neg a]
      by_cases b : r = 43 ∧ q = k
      · rw [if_pos b, if_pos (by omega), b.2]
      · rw [if_neg b, if_neg (by omega)]
theorem mvI_v {t j : Nat} : ∀ n k (S : xSt) (r q : Nat), itF (mvI t j) n k S r q = if r = 42 ∧ 60 * t + j + k ≤ q ∧ q < 60 * t + j + k + n then S 43 (q - (60 * t + j)) else S r q
  | 0, k, S, r, q => by rw [if_neg (by omega)]; rfl
  | n + 1, k, S, r, q => by
    show itF (mvI t j) n (k + 1) (mvI t j k S) r q = _
    rw [mvI_v n (k + 1)]
    unfold mvI mwr
    by_cases a : r = 42 ∧ 60 * t + j + (k + 1) ≤ q ∧ q < 60 * t + j + (k + 1) + n
    · rw [if_pos a, if_neg (by omega), if_pos (by omega)]
    · rw [if_neg a]
      by_cases b : r = 42 ∧ q = 60 * t + j + k
      · rw [if_pos b, if_pos (by omega), b.2, show 60 * t + j + k - (60 * t + j) = k from by omega]
      · rw [if_neg b, if_neg (by omega)]
theorem copyT_v {s i t j n : Nat} (S : xSt) : copyT s i t j n S 42 = cp42 s i t j n S ∧ ∀ r, r ≠ 42 → r ≠ 43 → copyT s i t j n S r = S r := by
  refine ⟨?_, fun r h1 h2 => ?_⟩
  · funext q
    unfold copyT cp42
    rw [mvI_v, moI_v, moI_v]
    by_cases a : 60 * t + j ≤ q ∧ q < 60 * t + j + n
    · rw [if_pos (by omega), if_pos (by omega), if_pos a]
    · rw [if_neg (by omega), if_neg (by omega), if_neg a]
  · funext q
    unfold copyT
    rw [mvI_v, if_neg (by omega), moI_v, if_neg (by omega)]
/-- items change alike on both sides -/
theorem XY_42 {G H X Y : xSt} (h : XY G X) (hX : ∀ r, r ≠ 42 → Y r = X r) (hG : ∀ r, r ≠ 42 → r ≠ 43 → H r = G r) (h42 : Y 42 = H 42) : XY H Y := by
  have hcn : cnt Y 2 = cnt X 2 := by unfold cnt; rw [hX _ (by have := @szr_b 2; omega)]
  have hsn : std Y 2 = std X 2 := by unfold std; rw [hX _ (by omega)]
  refine XY_nt h (BX_q2 h.1 (fun r g => hX r (by omega)) (fun p _ => by rw [hX 50 (by omega)]) (fun p _ => by rw [hX 54 (by omega)]) (by rw [hX 10 (by omega)]; exact h.1.2.2.2.2.2.2.2.2.2.2.1) (LQ_ofp (hX _ (by have := @szr_b 2; omega)) (by rw [hX 50 (by omega)]) (h.1.2.1 2 (by decide))) (by rw [hcn, hsn]; exact h.2.2.2.2.1)) (fun r g => ?_) (by rw [hX 10 (by omega), hG 10 (by omega) (by omega)]; exact h.2.2.1) (fun k hk => ?_) (by rw [hcn, hsn]; exact h.2.2.2.2.1) (fun r g => hX r (by omega)) ⟨hG 0 (by omega) (by omega), hG 1 (by omega) (by omega)⟩
  · by_cases e : r = 42
    · rw [e]; exact h42
    · rw [hX r e, hG r e (by unfold cj at g; omega)]; exact h.2.1 r g
  · rw [hX 11 (by omega), hX 12 (by omega), hG 11 (by omega) (by omega), hG 12 (by omega) (by omega)]
    exact h.2.2.2.1 k (by rw [hcn] at hk; exact hk)
theorem sh_cp {K : Nat} {X : xSt} {s t i j n : Nat} (hs : SR K X s) (ht : SR K X t) (h1 : i + n ≤ vN (X 41 s)) (h2 : j + n ≤ vN (X 41 t)) : upw (wX X) (832 + t) (.inl (ftN K, true, vN (X 41 t), va_cpy (cutI (vN (X 41 s)) (fun q => X 42 (60 * s + q))) (cutI (vN (X 41 t)) (fun q => X 42 (60 * t + q))) i j n)) = wX (cpX2 s i t j n X) := by
  have hz := (sh_z ht).2
  have ht' : SR K (cpX2 s i t j n X) t := ⟨ht.1, ht.2.1, ht.2.2.1, ht.2.2.2⟩
  refine wX_up ((sh_row ht').trans (congrArg (fun z => some (Sum.inl (ftN K, true, vN (X 41 t), z))) ?_)) fun m hm => wX_dep fun r q hd => ?_
  · funext q
    show cutI (vN (X 41 t)) (fun i_1 => cpX2 s i t j n X 42 (60 * t + i_1)) q = _
    unfold va_cpy
    by_cases c : q < vN (X 41 t)
    · rw [cutI_at c]
      show Value.int (cp42 s i t j n X (60 * t + q)) = _
      unfold cp42
      by_cases a : j ≤ q ∧ q < j + n
      · rw [if_pos a, if_pos (by omega), cutI_at (by omega), show 60 * s + i + (60 * t + q - (60 * t + j)) = 60 * s + (i + (q - j)) from by omega]
      · rw [if_neg a, if_neg (by omega), cutI_at c]
    · have e : ∀ f, cutI (vN (X 41 t)) f q = .null := fun f => if_neg c
      rw [e, if_neg (by omega), e]
  · show (if r = 42 then cp42 s i t j n X q else X r q) = X r q
    by_cases e : r = 42
    · rw [if_pos e]
      rw [e, dep_42] at hd
      unfold cp42
      rw [if_neg (by have := ht.1; omega), e]
    · rw [if_neg e]
theorem cp_gt {a b z : Nat} (ha : a < 2 ^ 31) (hb : b < 2 ^ 31) (hz : z < 2 ^ 31) (h : a + b ≤ z) : ¬ 0 < lg_cmp ((nI a).toInt64 + (nI b).toInt64) (nI z).toInt64 ∧ lg_cmp ((nI a).toInt64 + (nI b).toInt64) (nI z).toInt64 ≤ 0 := by
  have hn : ¬ 0 < lg_cmp ((nI a).toInt64 + (nI b).toInt64) (nI z).toInt64 := fun q => by
    have w := Int64.lt_iff_toInt_lt.mp ((lg_cmp_gt _ _).mp q)
    rw [Int64.toInt_add, Int32.toInt_toInt64, Int32.toInt_toInt64, Int32.toInt_toInt64, nI_toInt ha, nI_toInt hb, nI_toInt hz, Int.bmod_eq_of_le (by omega) (by omega)] at w
    omega
  exact ⟨hn, Int32.not_lt.mp hn⟩
theorem copyR_in {G : xSt} {s t a b n zs zt : Nat} (hs : G 41 s = nI zs) (ht : G 41 t = nI zt) (hzs : zs ≤ 60) (hzt : zt ≤ 60) (h1 : a + n ≤ zs) (h2 : b + n ≤ zt) : copyR s t (nI a) (nI b) (nI n) G = (nI 1, copyT s a t b n G) := by
  unfold copyR
  rw [if_neg (nI_nn (by omega)), if_neg (nI_nn (by omega)), if_neg (nI_nn (by omega)), hs, ht, if_neg (cp_gt (by omega) (by omega) (by omega) h1).1, if_pos (cp_gt (by omega) (by omega) (by omega) h2).2, vN_nI (by omega), vN_nI (by omega), vN_nI (by omega)]
theorem nI_ofn {x : Int32} (h : ¬ x < 0) : ∃ m : Nat, m < 2 ^ 31 ∧ x = nI m ∧ x.toInt = m := by
  have q := nn_int h
  obtain ⟨m, hm⟩ := Int.eq_ofNat_of_zero_le q.1
  refine ⟨m, by omega, Int32.toInt_inj.mp ?_, hm⟩
  rw [nI_toInt (by omega), hm]
theorem copyR_out {G : xSt} {s t : Nat} {i j n : Int32} {zs zt : Nat} (hs : G 41 s = nI zs) (ht : G 41 t = nI zt) (hzs : zs ≤ 60) (hzt : zt ≤ 60) (hout : i < 0 ∨ j < 0 ∨ n < 0 ∨ i.toInt + n.toInt > zs ∨ j.toInt + n.toInt > zt) : copyR s t i j n G = meetsF 2 G := by
  unfold copyR
  by_cases c1 : i < 0
  · rw [if_pos c1]
  · rw [if_neg c1]
    by_cases c2 : j < 0
    · rw [if_pos c2]
    · rw [if_neg c2]
      by_cases c3 : n < 0
      · rw [if_pos c3]
      · rw [if_neg c3]
        obtain ⟨a, ha, rfl, ea⟩ := nI_ofn c1
        obtain ⟨b, hb, rfl, eb⟩ := nI_ofn c2
        obtain ⟨m, hm, rfl, em⟩ := nI_ofn c3
        by_cases c4 : 0 < lg_cmp ((nI a).toInt64 + (nI m).toInt64) (G 41 s).toInt64
        · rw [if_pos c4]
        · rw [if_neg c4]
          rw [hs] at c4
          have k4 := cp_nle ha hm (by omega) c4
          by_cases c5 : lg_cmp ((nI b).toInt64 + (nI m).toInt64) (G 41 t).toInt64 ≤ 0
          · rw [ht] at c5
            have k5 := cp_le hb hm (by omega) c5
            exfalso
            rw [ea, eb, em] at hout
            rcases hout with z | z | z | z | z
            · exact c1 z
            · exact c2 z
            · exact c3 z
            · omega
            · omega
          · rw [if_neg c5]
set_option maxHeartbeats 800000 in
theorem x_copy (l : Launch) (hl : l.stackTraces = false) {G X : xSt} (h : XR G X) (hM : MI G) (hF4 : F40 G) (hI : IV G) (s i t j n : Int32) : Cz l yX0_copy (wsW_ yX0_copy cX0_copy 7 (some .int) [(74, 101, 102, 403)]) 3 3 410 F36 [.ref 0, .int s, .int i, .int t, .int j, .int n] X (fun r X' => ∃ x, r = some (.int x) ∧ x = (copyP s i t j n G).1 ∧ XR (copyP s i t j n G).2 X') := by
  refine Cz_startW (ls := [some (.ref 0), some (.int s), some (.int i), some (.int t), some (.int j), some (.int n), none]) (by decide) rfl (Nat.le_of_ble_eq_true rfl) F36_lo ?_
  intro Q hQ
  have hy := XR_XY h
  obtain ⟨g39, g40, g41, g42⟩ := XY_sh hy
  have hcb := hy.1.1
  have L0 : ∀ (p q : Nat) (hp : p < 4) (hq : q < 4) (e1 : s = nI p) (e2 : t = nI q) (h0 : X 39 p = 0), V l (yX0_copy.cls, cX0_copy, 7, (some .int), [(74, 101, 102, 403)], yX0_copy.name) (rmD 3 3 410, F36, Q, xX0) 17 [some (.ref 0), some (.int s), some (.int i), some (.int t), some (.int j), some (.int n), none] [] (wX X) 3 410 := by
    intro p q hp hq e1 e2 h0
    subst e1
    subst e2
    have hip : nI 0 ≤ nI p ∧ nI p ≤ nI 3 := ⟨nI_le (Nat.zero_le _) (by omega), nI_le (by omega) (by decide)⟩
    have hiq : nI 0 ≤ nI q ∧ nI q ≤ nI 3 := ⟨nI_le (Nat.zero_le _) (by omega), nI_le (by omega) (by decide)⟩
    have hF : copyP (nI p) i (nI q) j n G = meetsF 1 G := by unfold copyP; rw [if_pos hip, if_pos hiq, vN_nI (by omega), vN_nI (by omega), if_pos (by rw [← g39]; exact h0)]
    have hMF : MI (meetsF 1 G).2 := by have z := MI_copy hM (nI p) i (nI q) j n; rw [hF] at z; exact z
    refine V_aload_n dX0_copy_17 rfl ?_
    refine V_getf (i := 23) k_X0 dX0_copy_18 (by decide) q250 (wX_obj _) rfl ?_
    refine V_iload_n dX0_copy_21 rfl ?_
    refine Vx_aa_sheets dX0_copy_22 rfl hp ?_
    refine V_getfN (i := 0) k_X4 dX0_copy_23 (by decide) (nw q222 rfl) (sh_nul hp h0) rfl ?_
    refine V_ifnullN (tgt := 41) dX0_copy_26 (by decide) ?_
    refine V_aload_n dX0_copy_41 rfl ?_
    refine V_iconst dX0_copy_42 li_1 ?_
    refine Vz_vI (k' := 0) (n' := 0) (x_met l (X := X) 1) dX0_copy_43 (lw_V q764 q766 qs8 q95 q767) hv_X0_met (by decide) (wX_obj _) cl_X0 rfl rfl (Nat.le_of_ble_eq_true rfl) (fun _ h => h.elim) (fun _ _ => xok0) (fun _ _ => xok0) ⟨Nat.zero_le _, Nat.zero_le _⟩ (fun x9 X9 h9 => ?_)
    obtain ⟨ex, rfl⟩ := h9
    rw [ex]
    exact V_ireturn dX0_copy_46 rfl (hQ _ _ ⟨_, rfl, ⟨by rw [hF]; rfl, by rw [hF]; exact XY_XR hMF (XY_wr hy (by omega))⟩⟩)
  have L1 : ∀ (p q : Nat) (hp : p < 4) (hq : q < 4) (e1 : s = nI p) (e2 : t = nI q) (h0 : ¬ X 39 p = 0) (h1 : X 39 q = 0), V l (yX0_copy.cls, cX0_copy, 7, (some .int), [(74, 101, 102, 403)], yX0_copy.name) (rmD 3 3 410, F36, Q, xX0) 17 [some (.ref 0), some (.int s), some (.int i), some (.int t), some (.int j), some (.int n), none] [] (wX X) 3 410 := by
    intro p q hp hq e1 e2 h0 h1
    subst e1
    subst e2
    have hip : nI 0 ≤ nI p ∧ nI p ≤ nI 3 := ⟨nI_le (Nat.zero_le _) (by omega), nI_le (by omega) (by decide)⟩
    have hiq : nI 0 ≤ nI q ∧ nI q ≤ nI 3 := ⟨nI_le (Nat.zero_le _) (by omega), nI_le (by omega) (by decide)⟩
    have hr := XY_SR hy hM hp h0
    have hF : copyP (nI p) i (nI q) j n G = meetsF 1 G := by unfold copyP; rw [if_pos hip, if_pos hiq, vN_nI (by omega), vN_nI (by omega), if_neg (by rw [← g39]; exact h0), if_pos (by rw [← g39]; exact h1)]
    have hMF : MI (meetsF 1 G).2 := by have z := MI_copy hM (nI p) i (nI q) j n; rw [hF] at z; exact z
    refine V_aload_n dX0_copy_17 rfl ?_
    refine V_getf (i := 23) k_X0 dX0_copy_18 (by decide) q250 (wX_obj _) rfl ?_
    refine V_iload_n dX0_copy_21 rfl ?_
    refine Vx_aa_sheets dX0_copy_22 rfl hp ?_
    refine V_getfN (i := 0) k_X4 dX0_copy_23 (by decide) (nw q222 rfl) (sh_ob hr) rfl ?_
    refine V_ifnull dX0_copy_26 ?_
    refine V_aload_n dX0_copy_29 rfl ?_
    refine V_getf (i := 23) k_X0 dX0_copy_30 (by decide) q250 (wX_obj _) rfl ?_
    refine V_iload_n dX0_copy_33 rfl ?_
    refine Vx_aa_sheets dX0_copy_34 rfl hq ?_
    refine V_getfN (i := 0) k_X4 dX0_copy_35 (by decide) (nw q222 rfl) (sh_nul hq h1) rfl ?_
    refine V_ifnonnullN dX0_copy_38 ?_
    refine V_aload_n dX0_copy_41 rfl ?_
    refine V_iconst dX0_copy_42 li_1 ?_
    refine Vz_vI (k' := 0) (n' := 0) (x_met l (X := X) 1) dX0_copy_43 (lw_V q764 q766 qs8 q95 q767) hv_X0_met (by decide) (wX_obj _) cl_X0 rfl rfl (Nat.le_of_ble_eq_true rfl) (fun _ h => h.elim) (fun _ _ => xok0) (fun _ _ => xok0) ⟨Nat.zero_le _, Nat.zero_le _⟩ (fun x9 X9 h9 => ?_)
    obtain ⟨ex, rfl⟩ := h9
    rw [ex]
    exact V_ireturn dX0_copy_46 rfl (hQ _ _ ⟨_, rfl, ⟨by rw [hF]; rfl, by rw [hF]; exact XY_XR hMF (XY_wr hy (by omega))⟩⟩)
  have L2 : ∀ (p q : Nat) (hp : p < 4) (hq : q < 4) (e1 : s = nI p) (e2 : t = nI q) (h0 : ¬ X 39 p = 0) (h1 : ¬ X 39 q = 0) (hK : fm X p ≠ fm X q), V l (yX0_copy.cls, cX0_copy, 7, (some .int), [(74, 101, 102, 403)], yX0_copy.name) (rmD 3 3 410, F36, Q, xX0) 17 [some (.ref 0), some (.int s), some (.int i), some (.int t), some (.int j), some (.int n), none] [] (wX X) 3 410 := by
    intro p q hp hq e1 e2 h0 h1 hK
    subst e1
    subst e2
    have hip : nI 0 ≤ nI p ∧ nI p ≤ nI 3 := ⟨nI_le (Nat.zero_le _) (by omega), nI_le (by omega) (by decide)⟩
    have hiq : nI 0 ≤ nI q ∧ nI q ≤ nI 3 := ⟨nI_le (Nat.zero_le _) (by omega), nI_le (by omega) (by decide)⟩
    have hr := XY_SR hy hM hp h0
    have hr2 := XY_SR hy hM hq h1
    have e40p : G 40 p = nI (fm X p) := by rw [← g40]; exact fm_bd (by rw [g40]; exact hF4 p hp)
    have e40q : G 40 q = nI (fm X q) := by rw [← g40]; exact fm_bd (by rw [g40]; exact hF4 q hq)
    have f3p := fm_3 X p
    have f3q := fm_3 X q
    have hz := sh_z hr
    have hz2 := sh_z hr2
    have hF : copyP (nI p) i (nI q) j n G = meetsF 4 G := by unfold copyP; rw [if_pos hip, if_pos hiq, vN_nI (by omega), vN_nI (by omega), if_neg (by rw [← g39]; exact h0), if_neg (by rw [← g39]; exact h1), if_neg (by rw [e40p, e40q]; exact fun z => hK ((nI_eq (by omega) (by omega)).mp z))]
    have hMF : MI (meetsF 4 G).2 := by have z := MI_copy hM (nI p) i (nI q) j n; rw [hF] at z; exact z
    refine V_aload_n dX0_copy_17 rfl ?_
    refine V_getf (i := 23) k_X0 dX0_copy_18 (by decide) q250 (wX_obj _) rfl ?_
    refine V_iload_n dX0_copy_21 rfl ?_
    refine Vx_aa_sheets dX0_copy_22 rfl hp ?_
    refine V_getfN (i := 0) k_X4 dX0_copy_23 (by decide) (nw q222 rfl) (sh_ob hr) rfl ?_
    refine V_ifnull dX0_copy_26 ?_
    refine V_aload_n dX0_copy_29 rfl ?_
    refine V_getf (i := 23) k_X0 dX0_copy_30 (by decide) q250 (wX_obj _) rfl ?_
    refine V_iload_n dX0_copy_33 rfl ?_
    refine Vx_aa_sheets dX0_copy_34 rfl hq ?_
    refine V_getfN (i := 0) k_X4 dX0_copy_35 (by decide) (nw q222 rfl) (sh_ob hr2) rfl ?_
    refine V_ifnonnull (tgt := 47) dX0_copy_38 (by decide) ?_
    refine V_aload_n dX0_copy_47 rfl ?_
    refine V_getf (i := 23) k_X0 dX0_copy_48 (by decide) q250 (wX_obj _) rfl ?_
    refine V_iload_n dX0_copy_51 rfl ?_
    refine Vx_aa_sheets dX0_copy_52 (by first | rfl | assumption) (by omega) ?_
    refine Vq_v (x_shty l hr) dX0_copy_53 (lw_V q779 q773 q774 q102 q775) hv_X4_type (by decide) (sh_ob hr) cl_X4 rfl rfl (Nat.le_of_ble_eq_true rfl) ?_
    refine V_aload_n dX0_copy_56 rfl ?_
    refine V_getf (i := 23) k_X0 dX0_copy_57 (by decide) q250 (wX_obj _) rfl ?_
    refine V_iload_n dX0_copy_60 rfl ?_
    refine Vx_aa_sheets dX0_copy_61 (by first | rfl | assumption) (by omega) ?_
    refine Vq_v (x_shty l hr2) dX0_copy_62 (lw_V q779 q773 q774 q102 q775) hv_X4_type (by decide) (sh_ob hr2) cl_X4 rfl rfl (Nat.le_of_ble_eq_true rfl) ?_
    refine V_icmp_eq (tgt := 74) dX0_copy_65 (by decide) (fun c65 => absurd c65 (fun z => hK ((nI_eq (by omega) (by omega)).mp z))) (fun _ => ?_)
    refine V_aload_n dX0_copy_68 rfl ?_
    refine V_iconst dX0_copy_69 li_4 ?_
    refine Vz_vI (k' := 0) (n' := 0) (x_met l (X := X) 4) dX0_copy_70 (lw_V q764 q766 qs8 q95 q767) hv_X0_met (by decide) (wX_obj _) cl_X0 rfl rfl (Nat.le_of_ble_eq_true rfl) (fun _ h => h.elim) (fun _ _ => xok0) (fun _ _ => xok0) ⟨Nat.zero_le _, Nat.zero_le _⟩ (fun x9 X9 h9 => ?_)
    obtain ⟨ex, rfl⟩ := h9
    rw [ex]
    exact V_ireturn dX0_copy_73 rfl (hQ _ _ ⟨_, rfl, ⟨by rw [hF]; rfl, by rw [hF]; exact XY_XR hMF (XY_wr hy (by omega))⟩⟩)
  have L3 : ∀ (p q : Nat) (hp : p < 4) (hq : q < 4) (e1 : s = nI p) (e2 : t = nI q) (h0 : ¬ X 39 p = 0) (h1 : ¬ X 39 q = 0) (hK : fm X p = fm X q) (hout : i < 0 ∨ j < 0 ∨ n < 0 ∨ i.toInt + n.toInt > vN (X 41 p) ∨ j.toInt + n.toInt > vN (X 41 q)), V l (yX0_copy.cls, cX0_copy, 7, (some .int), [(74, 101, 102, 403)], yX0_copy.name) (rmD 3 3 410, F36, Q, xX0) 17 [some (.ref 0), some (.int s), some (.int i), some (.int t), some (.int j), some (.int n), none] [] (wX X) 3 410 := by
    intro p q hp hq e1 e2 h0 h1 hK hout
    subst e1
    subst e2
    have hip : nI 0 ≤ nI p ∧ nI p ≤ nI 3 := ⟨nI_le (Nat.zero_le _) (by omega), nI_le (by omega) (by decide)⟩
    have hiq : nI 0 ≤ nI q ∧ nI q ≤ nI 3 := ⟨nI_le (Nat.zero_le _) (by omega), nI_le (by omega) (by decide)⟩
    have hr := XY_SR hy hM hp h0
    have hr2 := XY_SR hy hM hq h1
    have e40p : G 40 p = nI (fm X p) := by rw [← g40]; exact fm_bd (by rw [g40]; exact hF4 p hp)
    have e40q : G 40 q = nI (fm X q) := by rw [← g40]; exact fm_bd (by rw [g40]; exact hF4 q hq)
    have f3p := fm_3 X p
    have f3q := fm_3 X q
    have hz := sh_z hr
    have hz2 := sh_z hr2
    have hrK : SR (fm X p) X q := by rw [hK]; exact hr2
    have hF : copyP (nI p) i (nI q) j n G = meetsF 2 G := by unfold copyP; rw [if_pos hip, if_pos hiq, vN_nI (by omega), vN_nI (by omega), if_neg (by rw [← g39]; exact h0), if_neg (by rw [← g39]; exact h1), if_pos (by rw [e40p, e40q, hK]), copyR_out (by rw [← g41]; exact hz.1) (by rw [← g41]; exact hz2.1) hz.2 hz2.2 hout]
    have hMF : MI (meetsF 2 G).2 := by have z := MI_copy hM (nI p) i (nI q) j n; rw [hF] at z; exact z
    refine V_aload_n dX0_copy_17 rfl ?_
    refine V_getf (i := 23) k_X0 dX0_copy_18 (by decide) q250 (wX_obj _) rfl ?_
    refine V_iload_n dX0_copy_21 rfl ?_
    refine Vx_aa_sheets dX0_copy_22 rfl hp ?_
    refine V_getfN (i := 0) k_X4 dX0_copy_23 (by decide) (nw q222 rfl) (sh_ob hr) rfl ?_
    refine V_ifnull dX0_copy_26 ?_
    refine V_aload_n dX0_copy_29 rfl ?_
    refine V_getf (i := 23) k_X0 dX0_copy_30 (by decide) q250 (wX_obj _) rfl ?_
    refine V_iload_n dX0_copy_33 rfl ?_
    refine Vx_aa_sheets dX0_copy_34 rfl hq ?_
    refine V_getfN (i := 0) k_X4 dX0_copy_35 (by decide) (nw q222 rfl) (sh_ob hr2) rfl ?_
    refine V_ifnonnull (tgt := 47) dX0_copy_38 (by decide) ?_
    refine V_aload_n dX0_copy_47 rfl ?_
    refine V_getf (i := 23) k_X0 dX0_copy_48 (by decide) q250 (wX_obj _) rfl ?_
    refine V_iload_n dX0_copy_51 rfl ?_
    refine Vx_aa_sheets dX0_copy_52 (by first | rfl | assumption) (by omega) ?_
    refine Vq_v (x_shty l hr) dX0_copy_53 (lw_V q779 q773 q774 q102 q775) hv_X4_type (by decide) (sh_ob hr) cl_X4 rfl rfl (Nat.le_of_ble_eq_true rfl) ?_
    refine V_aload_n dX0_copy_56 rfl ?_
    refine V_getf (i := 23) k_X0 dX0_copy_57 (by decide) q250 (wX_obj _) rfl ?_
    refine V_iload_n dX0_copy_60 rfl ?_
    refine Vx_aa_sheets dX0_copy_61 (by first | rfl | assumption) (by omega) ?_
    refine Vq_v (x_shty l hr2) dX0_copy_62 (lw_V q779 q773 q774 q102 q775) hv_X4_type (by decide) (sh_ob hr2) cl_X4 rfl rfl (Nat.le_of_ble_eq_true rfl) ?_
    refine V_icmp_eq (tgt := 74) dX0_copy_65 (by decide) (fun _ => ?_) (fun c65 => absurd (show nI (fm X p) = nI (fm X q) by rw [hK]) c65)
    refine V_aload_n dX0_copy_74 rfl ?_
    refine V_getf (i := 23) k_X0 dX0_copy_75 (by decide) q250 (wX_obj _) rfl ?_
    refine V_iload_n dX0_copy_78 rfl ?_
    refine Vx_aa_sheets dX0_copy_79 rfl hp ?_
    refine V_getfN (i := 0) k_X4 dX0_copy_80 (by decide) (nw q222 rfl) (sh_ob hr) rfl ?_
    refine V_iload_n dX0_copy_83 rfl ?_
    refine V_aload_n dX0_copy_84 rfl ?_
    refine V_getf (i := 23) k_X0 dX0_copy_85 (by decide) q250 (wX_obj _) rfl ?_
    refine V_iload_n dX0_copy_88 rfl ?_
    refine Vx_aa_sheets dX0_copy_89 rfl hq ?_
    refine V_getfN (i := 0) k_X4 dX0_copy_90 (by decide) (nw q222 rfl) (sh_ob hr2) rfl ?_
    refine V_iload dX0_copy_93 rfl ?_
    refine V_iload dX0_copy_95 rfl ?_
    refine V_copyZ (k' := 0) (n' := 0) hl (ft_ty _) (ft_kn _) dX0_copy_97 q840 q645 q644 q117 (sh_row hr) (sh_row hrK) (by omega) (by omega) hout ⟨Nat.le_of_ble_eq_true rfl, Nat.le_of_ble_eq_true rfl⟩ (Nat.le_of_ble_eq_true rfl) (wX_far X (by decide)) (Nat.le_refl _) (sh_hi hcb) (nel_c (ne_r (by decide)) (nel_c ne_i (nel_c ne_i (nel_c ne_i (nel_c ne_i (nel_c ne_i (nel_n nel_0))))))) nes_0 ⟨Nat.le_of_ble_eq_true rfl, Nat.le_of_ble_eq_true rfl⟩ ?_
    refine Vx_catch (tgt := 102) [] ⟨74, 101, 102, 403⟩ [] rfl (fun z hz => nomatch hz) (by decide) (by decide) q1123 (nw q1697 rfl) rfl ?_
    refine V_astore dX0_copy_102 rfl (Nat.le_of_ble_eq_true rfl) (Nat.le_of_ble_eq_true rfl) ?_
    refine V_aload_n dX0_copy_104 rfl ?_
    refine V_iconst dX0_copy_105 li_2 ?_
    refine Vz_vI (k' := 0) (n' := 0) (x_met l (X := X) 2) dX0_copy_106 (lw_V q764 q766 qs8 q95 q767) hv_X0_met (by decide) (wX_obj _) cl_X0 rfl rfl (Nat.le_of_ble_eq_true rfl) (fun _ h => h.elim) (fun _ _ => xok0) (fun _ _ => xok0) ⟨Nat.zero_le _, Nat.zero_le _⟩ (fun x9 X9 h9 => ?_)
    obtain ⟨ex, rfl⟩ := h9
    rw [ex]
    exact V_ireturn dX0_copy_109 rfl (hQ _ _ ⟨_, rfl, ⟨by rw [hF]; rfl, by rw [hF]; exact XY_XR hMF (XY_wr hy (by omega))⟩⟩)
  have L4 : ∀ (p q : Nat) (hp : p < 4) (hq : q < 4) (e1 : s = nI p) (e2 : t = nI q) (h0 : ¬ X 39 p = 0) (h1 : ¬ X 39 q = 0) (hK : fm X p = fm X q) (a b m : Nat) (ei : i = nI a) (ej : j = nI b) (en : n = nI m) (k1 : a + m ≤ vN (X 41 p)) (k2 : b + m ≤ vN (X 41 q)), V l (yX0_copy.cls, cX0_copy, 7, (some .int), [(74, 101, 102, 403)], yX0_copy.name) (rmD 3 3 410, F36, Q, xX0) 17 [some (.ref 0), some (.int s), some (.int i), some (.int t), some (.int j), some (.int n), none] [] (wX X) 3 410 := by
    intro p q hp hq e1 e2 h0 h1 hK a b m ei ej en k1 k2
    subst e1
    subst e2
    have hip : nI 0 ≤ nI p ∧ nI p ≤ nI 3 := ⟨nI_le (Nat.zero_le _) (by omega), nI_le (by omega) (by decide)⟩
    have hiq : nI 0 ≤ nI q ∧ nI q ≤ nI 3 := ⟨nI_le (Nat.zero_le _) (by omega), nI_le (by omega) (by decide)⟩
    have hr := XY_SR hy hM hp h0
    have hr2 := XY_SR hy hM hq h1
    have e40p : G 40 p = nI (fm X p) := by rw [← g40]; exact fm_bd (by rw [g40]; exact hF4 p hp)
    have e40q : G 40 q = nI (fm X q) := by rw [← g40]; exact fm_bd (by rw [g40]; exact hF4 q hq)
    have f3p := fm_3 X p
    have f3q := fm_3 X q
    have hz := sh_z hr
    have hz2 := sh_z hr2
    have hrK : SR (fm X p) X q := by rw [hK]; exact hr2
    subst ei
    subst ej
    subst en
    have hF : copyP (nI p) (nI a) (nI q) (nI b) (nI m) G = (nI 1, copyT p a q b m G) := by unfold copyP; rw [if_pos hip, if_pos hiq, vN_nI (by omega), vN_nI (by omega), if_neg (by rw [← g39]; exact h0), if_neg (by rw [← g39]; exact h1), if_pos (by rw [e40p, e40q, hK]), copyR_in (by rw [← g41]; exact hz.1) (by rw [← g41]; exact hz2.1) hz.2 hz2.2 k1 k2]
    have hMF : MI (copyT p a q b m G) := by have z := MI_copy hM (nI p) (nI a) (nI q) (nI b) (nI m); rw [hF] at z; exact z
    refine V_aload_n dX0_copy_17 rfl ?_
    refine V_getf (i := 23) k_X0 dX0_copy_18 (by decide) q250 (wX_obj _) rfl ?_
    refine V_iload_n dX0_copy_21 rfl ?_
    refine Vx_aa_sheets dX0_copy_22 rfl hp ?_
    refine V_getfN (i := 0) k_X4 dX0_copy_23 (by decide) (nw q222 rfl) (sh_ob hr) rfl ?_
    refine V_ifnull dX0_copy_26 ?_
    refine V_aload_n dX0_copy_29 rfl ?_
    refine V_getf (i := 23) k_X0 dX0_copy_30 (by decide) q250 (wX_obj _) rfl ?_
    refine V_iload_n dX0_copy_33 rfl ?_
    refine Vx_aa_sheets dX0_copy_34 rfl hq ?_
    refine V_getfN (i := 0) k_X4 dX0_copy_35 (by decide) (nw q222 rfl) (sh_ob hr2) rfl ?_
    refine V_ifnonnull (tgt := 47) dX0_copy_38 (by decide) ?_
    refine V_aload_n dX0_copy_47 rfl ?_
    refine V_getf (i := 23) k_X0 dX0_copy_48 (by decide) q250 (wX_obj _) rfl ?_
    refine V_iload_n dX0_copy_51 rfl ?_
    refine Vx_aa_sheets dX0_copy_52 (by first | rfl | assumption) (by omega) ?_
    refine Vq_v (x_shty l hr) dX0_copy_53 (lw_V q779 q773 q774 q102 q775) hv_X4_type (by decide) (sh_ob hr) cl_X4 rfl rfl (Nat.le_of_ble_eq_true rfl) ?_
    refine V_aload_n dX0_copy_56 rfl ?_
    refine V_getf (i := 23) k_X0 dX0_copy_57 (by decide) q250 (wX_obj _) rfl ?_
    refine V_iload_n dX0_copy_60 rfl ?_
    refine Vx_aa_sheets dX0_copy_61 (by first | rfl | assumption) (by omega) ?_
    refine Vq_v (x_shty l hr2) dX0_copy_62 (lw_V q779 q773 q774 q102 q775) hv_X4_type (by decide) (sh_ob hr2) cl_X4 rfl rfl (Nat.le_of_ble_eq_true rfl) ?_
    refine V_icmp_eq (tgt := 74) dX0_copy_65 (by decide) (fun _ => ?_) (fun c65 => absurd (show nI (fm X p) = nI (fm X q) by rw [hK]) c65)
    refine V_aload_n dX0_copy_74 rfl ?_
    refine V_getf (i := 23) k_X0 dX0_copy_75 (by decide) q250 (wX_obj _) rfl ?_
    refine V_iload_n dX0_copy_78 rfl ?_
    refine Vx_aa_sheets dX0_copy_79 rfl hp ?_
    refine V_getfN (i := 0) k_X4 dX0_copy_80 (by decide) (nw q222 rfl) (sh_ob hr) rfl ?_
    refine V_iload_n dX0_copy_83 rfl ?_
    refine V_aload_n dX0_copy_84 rfl ?_
    refine V_getf (i := 23) k_X0 dX0_copy_85 (by decide) q250 (wX_obj _) rfl ?_
    refine V_iload_n dX0_copy_88 rfl ?_
    refine Vx_aa_sheets dX0_copy_89 rfl hq ?_
    refine V_getfN (i := 0) k_X4 dX0_copy_90 (by decide) (nw q222 rfl) (sh_ob hr2) rfl ?_
    refine V_iload dX0_copy_93 rfl ?_
    refine V_iload dX0_copy_95 rfl ?_
    refine V_copyP (ft_prim (fm X p)) dX0_copy_97 q840 q645 q644 q117 (sh_row hr) (sh_row hrK) (nI_nn (by omega)) (nI_nn (by omega)) (nI_nn (by omega)) (by rw [nI_clamp (by omega), nI_clamp (by omega)]; exact k1) (by rw [nI_clamp (by omega), nI_clamp (by omega)]; exact k2) (fun u hu => ?_) ⟨Nat.le_of_ble_eq_true rfl, by have e9 : nativeFrameWords "java/lang/System" "arraycopy" 5 ≤ 100 := (by decide +kernel); show 8 + (nativeFrameWords "java/lang/System" "arraycopy" 5 + 11) ≤ 20000 + 100 * 3; omega⟩ (Nat.le_of_ble_eq_true rfl) ?_
    · rw [nI_clamp (by omega)] at hu
      rw [nI_clamp (by omega)]
      exact ⟨_, cutI_at (by omega), by rw [g42, show fm X p = fm G p from by unfold fm; rw [g40]]; exact hI p _ hp (by omega)⟩
    rw [nI_clamp (by omega), nI_clamp (by omega), nI_clamp (by omega), sh_cp hr hrK k1 k2]
    refine V_iconst dX0_copy_100 li_1 ?_
    exact V_ireturn dX0_copy_101 rfl (hQ _ _ ⟨_, rfl, ⟨by rw [hF], by rw [hF]; exact XY_XR hMF (XY_42 hy (fun r g => funext fun u => if_neg g) (fun r g g2 => (copyT_v G).2 r g g2) (by show cpX2 p a q b m X 42 = copyT p a q b m G 42; rw [(copyT_v G).1]; funext u; show cp42 p a q b m X u = _; unfold cp42; rw [g42]))⟩⟩)
  refine V_iload_n dX0_copy_0 rfl ?_
  refine Vs_callIF (s_isSheet l _) dX0_copy_1 (lw_S q761 q762 q95 q763) hs_X0_isSheet (by decide) rfl (Nat.le_of_ble_eq_true rfl) ?_
  refine V_if_eqB (tgt := 14) dX0_copy_4 (by decide) (fun c4 => ?_) (fun c4 => ?_)
  · refine V_bipush dX0_copy_14 lb_m2 ?_
    exact V_ireturn dX0_copy_16 rfl (hQ _ _ ⟨_, rfl, ⟨by unfold copyP; rw [if_neg c4], by unfold copyP; rw [if_neg c4]; exact h⟩⟩)
  · refine V_iload_n dX0_copy_7 rfl ?_
    refine Vs_callIF (s_isSheet l _) dX0_copy_8 (lw_S q761 q762 q95 q763) hs_X0_isSheet (by decide) rfl (Nat.le_of_ble_eq_true rfl) ?_
    refine V_if_neB (tgt := 17) dX0_copy_11 (by decide) (fun c11 => ?_) (fun c11 => ?_)
    · obtain ⟨p, hp, e1⟩ := bd_I (by decide) c4
      obtain ⟨q, hq, e2⟩ := bd_I (by decide) c11
      have hp : p < 4 := by omega
      have hq : q < 4 := by omega
      by_cases h0 : X 39 p = 0
      · exact L0 p q hp hq e1 e2 h0
      by_cases h1 : X 39 q = 0
      · exact L1 p q hp hq e1 e2 h0 h1
      by_cases hK : fm X p = fm X q
      · by_cases hout : i < 0 ∨ j < 0 ∨ n < 0 ∨ i.toInt + n.toInt > vN (X 41 p) ∨ j.toInt + n.toInt > vN (X 41 q)
        · exact L3 p q hp hq e1 e2 h0 h1 hK hout
        · obtain ⟨a, ha, ei, ea⟩ := nI_ofn (fun z => hout (.inl z))
          obtain ⟨b, hb, ej, eb⟩ := nI_ofn (fun z => hout (.inr (.inl z)))
          obtain ⟨m, hm, en, em⟩ := nI_ofn (fun z => hout (.inr (.inr (.inl z))))
          refine L4 p q hp hq e1 e2 h0 h1 hK a b m ei ej en ?_ ?_
          · have k1 : ¬ i.toInt + n.toInt > vN (X 41 p) := fun z => hout (.inr (.inr (.inr (.inl z))))
            omega
          · have k2 : ¬ j.toInt + n.toInt > vN (X 41 q) := fun z => hout (.inr (.inr (.inr (.inr z))))
            omega
      · exact L2 p q hp hq e1 e2 h0 h1 hK
    · refine V_bipush dX0_copy_14 lb_m2 ?_
      exact V_ireturn dX0_copy_16 rfl (hQ _ _ ⟨_, rfl, ⟨by unfold copyP; rw [if_pos c4, if_neg c11], by unfold copyP; rw [if_pos c4, if_neg c11]; exact h⟩⟩)
