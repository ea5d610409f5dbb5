/-! the law, whole -/
set_option maxRecDepth 100000
set_option maxHeartbeats 400000
theorem and63 (x : Int32) : ∃ m, m < 64 ∧ x &&& nI 63 = nI m := by
  refine ⟨(x &&& nI 63).toBitVec.toNat, ?_, ?_⟩
  · have h : (x &&& nI 63).toBitVec = x.toBitVec &&& (nI 63).toBitVec := rfl
    rw [h, BitVec.toNat_and]
    exact Nat.lt_of_le_of_lt Nat.and_le_right (by decide +kernel)
  · have h : (x &&& nI 63).toBitVec = x.toBitVec &&& (nI 63).toBitVec := rfl
    generalize x &&& nI 63 = y at *
    apply Int32.toBitVec_inj.mp
    show y.toBitVec = BitVec.ofNat 32 y.toBitVec.toNat
    rw [BitVec.ofNat_toNat, BitVec.setWidth_eq]
theorem lim_neg : ∀ L, L < 6 → nI L - nI 6 < nI 0 := by decide +kernel
theorem lim {i L : Nat} (hL : L ≤ 384) (hi : i ≤ 400) (h : ¬ nI L - nI 6 < nI i) : i + 6 ≤ L := by
  by_cases h6 : L < 6
  · exact absurd (Int32.lt_of_lt_of_le (lim_neg L h6) (nI_le (Nat.zero_le i) (by omega))) h
  · rw [pk_sub (by omega : 6 ≤ L)] at h
    have : ¬ L - 6 < i := fun z => h ((nI_ltI (by omega) (by omega)).mpr z)
    omega
theorem iinc_6 (a : Nat) : nI a + Int32.ofInt 6 = nI (a + 6) := nI_add a 6
def QT : Option Value → xW → Prop := fun r _ => r = some (.int (nI 1))

theorem law_sw (l : Launch) (hl : l.stackTraces = false) {G X : xSt} {L i : Nat} {xs : Nat → Int32} (h : INV G X) (hi : i + 6 ≤ L) (hL : L ≤ 384) {k n : Nat} (kk : ∀ G' X', INV G' X' → V l ML (room_1, fL, QT, xX0) 1339 [some (.ref 990), some (.ref 0), some (.ref 1000), some (.int (nI (i)))] [] (wL X' G' L xs) k n) : V l ML (room_1, fL, QT, xX0) 33 [some (.ref 990), some (.ref 0), some (.ref 1000), some (.int (nI (i)))] [.int (xs i &&& nI 63)] (wL X G L xs) (1802 + k) (12620 + n) := by
  obtain ⟨m, hm, e⟩ := and63 (xs i)
  rw [e]
  by_cases c : m < 37
  · match m, c with
    | 0, _ => exact V_tableIn (off := 163) (tgt := 196) dL_law_33 (by decide +kernel) (by decide +kernel) (by decide +kernel) (by decide) (law_0 l hl h hi hL kk)
    | 1, _ => exact V_tableIn (off := 196) (tgt := 229) dL_law_33 (by decide +kernel) (by decide +kernel) (by decide +kernel) (by decide) (law_1 l hl h hi hL kk)
    | 2, _ => exact V_tableIn (off := 219) (tgt := 252) dL_law_33 (by decide +kernel) (by decide +kernel) (by decide +kernel) (by decide) (law_2 l hl h hi hL kk)
    | 3, _ => exact V_tableIn (off := 242) (tgt := 275) dL_law_33 (by decide +kernel) (by decide +kernel) (by decide +kernel) (by decide) (law_3 l hl h hi hL kk)
    | 4, _ => exact V_tableIn (off := 265) (tgt := 298) dL_law_33 (by decide +kernel) (by decide +kernel) (by decide +kernel) (by decide) (law_4 l hl h hi hL kk)
    | 5, _ => exact V_tableIn (off := 298) (tgt := 331) dL_law_33 (by decide +kernel) (by decide +kernel) (by decide +kernel) (by decide) (law_5 l hl h hi hL kk)
    | 6, _ => exact V_tableIn (off := 331) (tgt := 364) dL_law_33 (by decide +kernel) (by decide +kernel) (by decide +kernel) (by decide) (law_6 l hl h hi hL kk)
    | 7, _ => exact V_tableIn (off := 364) (tgt := 397) dL_law_33 (by decide +kernel) (by decide +kernel) (by decide +kernel) (by decide) (law_7 l hl h hi hL kk)
    | 8, _ => exact V_tableIn (off := 407) (tgt := 440) dL_law_33 (by decide +kernel) (by decide +kernel) (by decide +kernel) (by decide) (law_8 l hl h hi hL kk)
    | 9, _ => exact V_tableIn (off := 450) (tgt := 483) dL_law_33 (by decide +kernel) (by decide +kernel) (by decide +kernel) (by decide) (law_9 l hl h hi hL kk)
    | 10, _ => exact V_tableIn (off := 473) (tgt := 506) dL_law_33 (by decide +kernel) (by decide +kernel) (by decide +kernel) (by decide) (law_10 l hl h hi hL kk)
    | 11, _ => exact V_tableIn (off := 496) (tgt := 529) dL_law_33 (by decide +kernel) (by decide +kernel) (by decide +kernel) (by decide) (law_11 l hl h hi hL kk)
    | 12, _ => exact V_tableIn (off := 539) (tgt := 572) dL_law_33 (by decide +kernel) (by decide +kernel) (by decide +kernel) (by decide) (law_12 l hl h hi hL kk)
    | 13, _ => exact V_tableIn (off := 572) (tgt := 605) dL_law_33 (by decide +kernel) (by decide +kernel) (by decide +kernel) (by decide) (law_13 l hl h hi hL kk)
    | 14, _ => exact V_tableIn (off := 595) (tgt := 628) dL_law_33 (by decide +kernel) (by decide +kernel) (by decide +kernel) (by decide) (law_14 l hl h hi hL kk)
    | 15, _ => exact V_tableIn (off := 618) (tgt := 651) dL_law_33 (by decide +kernel) (by decide +kernel) (by decide +kernel) (by decide) (law_15 l hl h hi hL kk)
    | 16, _ => exact V_tableIn (off := 641) (tgt := 674) dL_law_33 (by decide +kernel) (by decide +kernel) (by decide +kernel) (by decide) (law_16 l hl h hi hL kk)
    | 17, _ => exact V_tableIn (off := 654) (tgt := 687) dL_law_33 (by decide +kernel) (by decide +kernel) (by decide +kernel) (by decide) (law_17 l hl h hi hL kk)
    | 18, _ => exact V_tableIn (off := 667) (tgt := 700) dL_law_33 (by decide +kernel) (by decide +kernel) (by decide +kernel) (by decide) (law_18 l hl h hi hL kk)
    | 19, _ => exact V_tableIn (off := 700) (tgt := 733) dL_law_33 (by decide +kernel) (by decide +kernel) (by decide +kernel) (by decide) (law_19 l hl h hi hL kk)
    | 20, _ => exact V_tableIn (off := 733) (tgt := 766) dL_law_33 (by decide +kernel) (by decide +kernel) (by decide +kernel) (by decide) (law_20 l hl h hi hL kk)
    | 21, _ => exact V_tableIn (off := 766) (tgt := 799) dL_law_33 (by decide +kernel) (by decide +kernel) (by decide +kernel) (by decide) (law_21 l hl h hi hL kk)
    | 22, _ => exact V_tableIn (off := 789) (tgt := 822) dL_law_33 (by decide +kernel) (by decide +kernel) (by decide +kernel) (by decide) (law_22 l hl h hi hL kk)
    | 23, _ => exact V_tableIn (off := 832) (tgt := 865) dL_law_33 (by decide +kernel) (by decide +kernel) (by decide +kernel) (by decide) (law_23 l hl h hi hL kk)
    | 24, _ => exact V_tableIn (off := 845) (tgt := 878) dL_law_33 (by decide +kernel) (by decide +kernel) (by decide +kernel) (by decide) (law_24 l hl h hi hL kk)
    | 25, _ => exact V_tableIn (off := 858) (tgt := 891) dL_law_33 (by decide +kernel) (by decide +kernel) (by decide +kernel) (by decide) (law_25 l hl h hi hL kk)
    | 26, _ => exact V_tableIn (off := 891) (tgt := 924) dL_law_33 (by decide +kernel) (by decide +kernel) (by decide +kernel) (by decide) (law_26 l hl h hi hL kk)
    | 27, _ => exact V_tableIn (off := 914) (tgt := 947) dL_law_33 (by decide +kernel) (by decide +kernel) (by decide +kernel) (by decide) (law_27 l hl h hi hL kk)
    | 28, _ => exact V_tableIn (off := 968) (tgt := 1001) dL_law_33 (by decide +kernel) (by decide +kernel) (by decide +kernel) (by decide) (law_28 l hl h hi hL kk)
    | 29, _ => exact V_tableIn (off := 1011) (tgt := 1044) dL_law_33 (by decide +kernel) (by decide +kernel) (by decide +kernel) (by decide) (law_29 l hl h hi hL kk)
    | 30, _ => exact V_tableIn (off := 1054) (tgt := 1087) dL_law_33 (by decide +kernel) (by decide +kernel) (by decide +kernel) (by decide) (law_30 l hl h hi hL kk)
    | 31, _ => exact V_tableIn (off := 1077) (tgt := 1110) dL_law_33 (by decide +kernel) (by decide +kernel) (by decide +kernel) (by decide) (law_31 l hl h hi hL kk)
    | 32, _ => exact V_tableIn (off := 1130) (tgt := 1163) dL_law_33 (by decide +kernel) (by decide +kernel) (by decide +kernel) (by decide) (law_32 l hl h hi hL kk)
    | 33, _ => exact V_tableIn (off := 1173) (tgt := 1206) dL_law_33 (by decide +kernel) (by decide +kernel) (by decide +kernel) (by decide) (law_33 l hl h hi hL kk)
    | 34, _ => exact V_tableIn (off := 1236) (tgt := 1269) dL_law_33 (by decide +kernel) (by decide +kernel) (by decide +kernel) (by decide) (law_34 l hl h hi hL kk)
    | 35, _ => exact V_tableIn (off := 1269) (tgt := 1302) dL_law_33 (by decide +kernel) (by decide +kernel) (by decide +kernel) (by decide) (law_35 l hl h hi hL kk)
    | 36, _ => exact V_tableIn (off := 1292) (tgt := 1325) dL_law_33 (by decide +kernel) (by decide +kernel) (by decide +kernel) (by decide) (law_36 l hl h hi hL kk)
    | m + 37, c => exact absurd c (by omega)
  · refine V_tableOut (tgt := 1339) dL_law_33 (.inr ?_) (by decide) ?_
    · rw [nI_toInt (by omega)]
      omega
    · have w := kk G X h
      intro p e s m args below meth c H locs lsA D ad0 ad A cells slots hC hN hLL hk hn
      exact w p e s m args below meth c H locs lsA D ad0 ad A cells slots hC hN hLL (by omega) (by omega)

theorem law_loop (l : Launch) (hl : l.stackTraces = false) {L : Nat} {xs : Nat → Int32} (hL : L ≤ 384) : ∀ (j t : Nat) (G X : xSt), t + j = 64 → INV G X → V l ML (room_1, fL, QT, xX0) 18 [some (.ref 990), some (.ref 0), some (.ref 1000), some (.int (nI (6 * t)))] [] (wL X G L xs) (1802 * j) (12620 * j) := by
  intro j
  induction j with
  | zero =>
    intro t G X ht h
    refine V_iload_n dL_law_18 rfl ?_
    refine V_aload_n dL_law_19 rfl ?_
    refine V_alen dL_law_20 (show wL X G L xs 990 = _ from if_pos rfl) ?_
    refine V_bipush dL_law_21 lb_6 ?_
    refine V_isub dL_law_23 ?_
    refine V_icmp_gt (tgt := 1345) dL_law_24 (by decide) (fun _ => ?_) (fun c => absurd (lim hL (by omega) c) (by omega))
    refine V_iconst dL_law_1345 li_1 ?_
    exact V_zreturn dL_law_1346 rfl nr_1 rfl
  | succ j ih =>
    intro t G X ht h
    refine V_iload_n dL_law_18 rfl ?_
    refine V_aload_n dL_law_19 rfl ?_
    refine V_alen dL_law_20 (show wL X G L xs 990 = _ from if_pos rfl) ?_
    refine V_bipush dL_law_21 lb_6 ?_
    refine V_isub dL_law_23 ?_
    refine V_icmp_gt (tgt := 1345) dL_law_24 (by decide) (fun _ => ?_) (fun c => ?_)
    · refine V_iconst dL_law_1345 li_1 ?_
      exact V_zreturn dL_law_1346 rfl nr_1 rfl
    · have hi := lim hL (by omega) c
      refine V_aload_n dL_law_27 rfl ?_
      refine V_iload_n dL_law_28 rfl ?_
      refine V_sc dL_law_29 rfl (by omega) hL ?_
      refine V_bipush dL_law_30 lb_63 ?_
      refine V_iand dL_law_32 ?_
      rw [show 1802 * (j + 1) = 1802 + 1802 * j from by omega, show 12620 * (j + 1) = 12620 + 12620 * j from by omega]
      refine law_sw l hl h hi hL (fun G' X' h' => ?_)
      refine V_iinc dL_law_1339 rfl (iinc_6 _) rfl (Nat.le_of_ble_eq_true rfl) ?_
      refine V_goto (tgt := 18) dL_law_1342 (by decide) ?_
      exact ih (t + 1) G' X' (by omega) h'
/-- the law's first world: the script and the constants -/
def w0 (L : Nat) (xs : Nat → Int32) : xW := fun n => if n = 990 then some (.inl (.int, false, L, fun j => .int (xs j))) else if 900 ≤ n ∧ n < 950 then wX XBl n else none
def w1 (L : Nat) (xs : Nat → Int32) : xW := upw (w0 L xs) 0 (.inr (0, true, [.int 0, .null, .null, .null, .null, .null, .null, .null, .null, .null, .null, .null, .int 0, .int 0, .int 0, .int 0, .int 0, .int 0, .null, .null, .int 0, .null, .null, .null]))
def w2 (L : Nat) (xs : Nat → Int32) : xW := fun n => if n = 990 then some (.inl (.int, false, L, fun j => .int (xs j))) else wX XBl n
def w3 (L : Nat) (xs : Nat → Int32) : xW := upw (w2 L xs) 1000 (.inr (12, true, mIs 0))
theorem w0_nr {L : Nat} {xs : Nat → Int32} {a : Nat} (ha : a < 900 ∨ 950 ≤ a) : ∀ n c, w0 L xs n = some c → xnr a c := by
  intro n c h
  unfold w0 at h
  by_cases e : n = 990
  · rw [if_pos e] at h
    cases h
    exact fun j _ z => nomatch z
  · rw [if_neg e] at h
    by_cases g : 900 ≤ n ∧ n < 950
    · rw [if_pos g] at h
      exact XBl_nr h (by omega) (fun hm => by unfold men at hm; omega)
    · rw [if_neg g] at h
      cases h
theorem w1_at {L : Nat} {xs : Nat → Int32} {n : Nat} (h : n ≠ 990) : w1 L xs n = wI [(900, 950)] [.int 0, .null, .null, .null, .null, .null, .null, .null, .null, .null, .null, .null, .int 0, .int 0, .int 0, .int 0, .int 0, .int 0, .null, .null, .int 0, .null, .null, .null] n := by
  unfold w1
  by_cases e : n = 0
  · rw [e, upw_self, wI_0]
  · rw [upw_ne e]
    unfold w0
    rw [if_neg h]
    by_cases g : 900 ≤ n ∧ n < 950
    · rw [if_pos g, wI_at e (mdP_c.mpr (.inl g))]
    · rw [if_neg g, wI_no e (fun z => (mdP_c (r := (900, 950)) (L := []) (n := n)).mp z |>.elim (fun q => g q) (fun q => Bool.noConfusion (show false = true from q)))]
theorem w1_990 {L : Nat} {xs : Nat → Int32} : w1 L xs 990 = some (.inl (.int, false, L, fun j => .int (xs j))) := by
  unfold w1
  rw [upw_ne (by decide)]
  exact if_pos rfl
theorem wI_990 : wI [(900, 950)] [.int 0, .null, .null, .null, .null, .null, .null, .null, .null, .null, .null, .null, .int 0, .int 0, .int 0, .int 0, .int 0, .int 0, .null, .null, .int 0, .null, .null, .null] 990 = none := wI_no (by decide) (by decide)
theorem wX_c9 {X : xSt} {n : Nat} {c : xC} (h : wX X n = some c) (h1 : 900 ≤ n) (h2 : n < 960) : n < 950 := by
  have e : n = 64 * (n / 64) + n % 64 := (Nat.div_add_mod n 64).symm
  unfold wX at h
  rw [show n / 64 = 14 from by omega] at h e
  generalize n % 64 = d at h e
  have h : cl14 X d = some c := h
  by_cases q : d < 54
  · omega
  · unfold cl14 at h
    rw [if_neg (by omega), if_neg (by omega), if_neg (by omega), if_neg (by omega), if_neg (by omega)] at h
    cases h
theorem join_1 {L : Nat} {xs : Nat → Int32} : xjoin (wI [(900, 950)] [.int 0, .null, .null, .null, .null, .null, .null, .null, .null, .null, .null, .null, .int 0, .int 0, .int 0, .int 0, .int 0, .int 0, .null, .null, .int 0, .null, .null, .null]) (w1 L xs) (wX XBl) = w2 L xs := by
  funext n
  unfold w2
  by_cases h : n = 990
  · rw [if_pos h, h, xjoin_r (wX_mid (by decide) (by decide)) wI_990, w1_990]
  · rw [if_neg h]
    cases e : wX XBl n with
    | some q => exact xjoin_s e
    | none =>
      cases e1 : wI [(900, 950)] [.int 0, .null, .null, .null, .null, .null, .null, .null, .null, .null, .null, .null, .int 0, .int 0, .int 0, .int 0, .int 0, .int 0, .null, .null, .int 0, .null, .null, .null] n with
      | none => rw [xjoin_r e e1, w1_at h, e1]
      | some q => exact xjoin_n e e1
theorem x_initL (l : Launch) {L : Nat} {xs : Nat → Int32} : Cn l yX0_init (ws_ yX0_init cX0_init 1 none) (rmD 6 114 1116, fI, (fun r w' => r = none ∧ w' = w2 L xs), xX0) [.ref 0] (w1 L xs) :=
  Cn_frame (x_init l) rfl rfl (fun n c hn => by
    by_cases h : n = 990
    · rw [h, wI_990] at hn; cases hn
    · rw [w1_at h]; exact hn) (fun n c hn h1 => by
    by_cases h : n = 990
    · rw [h, w1_990] at hn
      cases hn
      exact ⟨fun z => by unfold fI at z; omega, fun a _ j _ z => nomatch z⟩
    · rw [w1_at h, h1] at hn
      cases hn) (fun r w' ⟨hr, e⟩ => by
    rw [e]
    refine ⟨fun n c hn => ?_, hr, join_1⟩
    have ho := wX_out hn
    refine ⟨?_, fun z => by rw [w1_at (by omega)]; exact z⟩
    rcases wX_own hn with g | ⟨g1, g2⟩
    · exact .inl g
    · have := wX_c9 hn g1.1 g1.2
      exact .inr ⟨(wI_at (by omega) (mdP_c.mpr (.inl ⟨by omega, by omega⟩))).trans hn, fun z => by unfold fI at z; omega⟩) (fun _ _ _ h => h.elim)
theorem XBl_nr2 {n a : Nat} {c : xC} (h : wX XBl n = some c) (ha : 1000 ≤ a) : xnr a c := by
  by_cases e : n = 0
  · rw [e] at h
    cases h
    rw [show x0fs XBl = [.int 0, .ref 64, .ref 65, .ref 194, .ref 195, .ref 196, .ref 320, .ref 321, .ref 322, .ref 704, .ref 705, .ref 706, .int 0, .int 0, .int (-1), .int 0, .int (-1), .int 0, .ref 197, .ref 707, .int 0, .ref 708, .ref 709, .ref 710] from x0fs_bl]
    exact xnr_o (nrc nrI (nrc (nrR (by omega)) (nrc (nrR (by omega)) (nrc (nrR (by omega)) (nrc (nrR (by omega)) (nrc (nrR (by omega)) (nrc (nrR (by omega)) (nrc (nrR (by omega)) (nrc (nrR (by omega)) (nrc (nrR (by omega)) (nrc (nrR (by omega)) (nrc (nrR (by omega)) (nrc nrI (nrc nrI (nrc nrI (nrc nrI (nrc nrI (nrc nrI (nrc (nrR (by omega)) (nrc (nrR (by omega)) (nrc nrI (nrc (nrR (by omega)) (nrc (nrR (by omega)) (nrc (nrR (by omega)) nr0))))))))))))))))))))))))
  · exact XBl_nr h e (fun hm => by unfold men at hm; omega)
theorem w2_nr {L : Nat} {xs : Nat → Int32} {a : Nat} (ha : 1000 ≤ a) : ∀ n c, w2 L xs n = some c → xnr a c := by
  intro n c h
  unfold w2 at h
  by_cases e : n = 990
  · rw [if_pos e] at h
    cases h
    exact fun j _ z => nomatch z
  · rw [if_neg e] at h
    exact XBl_nr2 h ha
theorem w2_no {L : Nat} {xs : Nat → Int32} {n : Nat} (h : 1000 ≤ n ∧ n < 1046) : w2 L xs n = none := by
  unfold w2
  rw [if_neg (by omega), wX_mid (by omega) (by omega)]
theorem mI_0 {n : Nat} {c : xC} (h : mI 0 n = some c) : n = 1000 := by
  by_cases e : n = 1000
  · exact e
  · unfold mI at h
    rw [if_neg e, if_neg (by omega)] at h
    cases h
theorem mI_00 : mI 0 1000 = some (.inr (12, true, mIs 0)) := if_pos rfl
theorem join_2 {L : Nat} {xs : Nat → Int32} : xjoin (mI 0) (w3 L xs) (mW mZero) = wL XBl mZero L xs := by
  funext n
  by_cases h : 1000 ≤ n ∧ n < 1046
  · rw [wL_M h]
    cases e : mW mZero n with
    | some q => exact xjoin_s e
    | none =>
      have e1 : mI 0 n = none := by
        cases e1 : mI 0 n with
        | none => rfl
        | some q => rw [mI_0 e1, mW_obj] at e; cases e
      rw [xjoin_r e e1]
      have hn : n ≠ 1000 := fun z => by rw [z, mW_obj] at e; cases e
      unfold w3
      rw [upw_ne hn]
      exact w2_no h
  · have e : mW mZero n = none := by
      cases e : mW mZero n with
      | none => rfl
      | some q => exact absurd (mW_in e).1 h
    have e1 : mI 0 n = none := by
      cases e1 : mI 0 n with
      | none => rfl
      | some q => exact absurd (mI_0 e1) (by omega)
    rw [xjoin_r e e1]
    unfold w3 w2 wL
    rw [upw_ne (by omega), if_neg h]
theorem m_initL (l : Launch) {L : Nat} {xs : Nat → Int32} : Cn l yX5_init (ws_ yX5_init cX5_init 1 none) (rmD 1 34 1516, mF, (fun r w' => r = none ∧ w' = wL XBl mZero L xs), xX0) [.ref 1000] (w3 L xs) :=
  Cn_frame (m_init l) rfl rfl (fun n c hn => by
    have e := mI_0 hn
    rw [e, mI_00] at hn
    rw [e, ← hn]
    exact upw_self) (fun n c hn h1 => by
    have e : n ≠ 1000 := fun z => by rw [z, mI_00] at h1; cases h1
    unfold w3 at hn
    rw [upw_ne e] at hn
    refine ⟨fun z => ?_, fun a z => w2_nr (by unfold mF at z; omega) n c hn⟩
    unfold mF at z
    rw [w2_no ⟨by omega, by omega⟩] at hn
    cases hn) (fun r w' ⟨hr, e⟩ => by
    rw [e]
    refine ⟨fun n c hn => ?_, hr, join_2⟩
    obtain ⟨g1, g2, -⟩ := mW_in hn
    refine ⟨.inl g2, fun z => ?_⟩
    have e : n ≠ 1000 := fun q => by rw [q, mI_00] at z; cases z
    unfold w3
    rw [upw_ne e]
    exact w2_no g1) (fun _ _ _ h => h.elim)
theorem INV_0 : INV mZero XBl := ⟨MI_zero, FI_zero, XR_bl⟩
theorem fI_L : ∀ n, fI n → fL n := fun n h => by unfold fI at h; unfold fL; omega
theorem mF_L : ∀ n, mF n → fL n := fun n h => by unfold mF at h; unfold fL; omega
/-- THE LAW's BODY -/
theorem law_V (l : Launch) (hl : l.stackTraces = false) {L : Nat} {xs : Nat → Int32} (hL : L ≤ 384) : V l ML (room_1, fL, QT, xX0) 0 [some (.ref 990), none, none, none] [] (w0 L xs) (1 + (114 + (1 + (34 + 1802 * 64)))) (24 + (1116 + (45 + (1516 + 12620 * 64)))) := by
  refine V_new (k' := 114 + (1 + (34 + 1802 * 64))) (n' := 1116 + (45 + (1516 + 12620 * 64))) (fs := [.int 0, .null, .null, .null, .null, .null, .null, .null, .null, .null, .null, .null, .int 0, .int 0, .int 0, .int 0, .int 0, .int 0, .null, .null, .int 0, .null, .null, .null]) 0 k_X0 dL_law_0 q125 q126 q95 (by decide +kernel) (by unfold w0; rw [if_neg (by decide), if_neg (by decide)]) (.inl (by decide)) (w0_nr (by decide)) (nel_c (ne_r (by decide)) (nel_n (nel_n (nel_n nel_0)))) nes_0 ⟨Nat.le_refl _, Nat.le_refl _⟩ ?_
  refine V_dup dL_law_3 rfl ?_
  show V l ML (room_1, fL, QT, xX0) 4 _ _ (w1 L xs) _ _
  refine V_callI (k' := 1 + (34 + 1802 * 64)) (n' := 45 + (1516 + 12620 * 64)) (x_initL l) dL_law_4 q129 q95 q127 q128 rfl hs_X0_init (xfit_L ⟨by decide, by decide⟩ ⟨Nat.le_refl _, Nat.le_refl _⟩) rfl (Nat.le_of_ble_eq_true rfl) fI_L (okl_c (ok_r (show ¬ fI 990 from by unfold fI; decide)) (okl_n (okl_n (okl_n okl_0)))) (oks_c (ok_r (show ¬ fI 0 from by unfold fI; decide)) oks_0) (fun r w' hh => ?_) (fun _ _ _ h => h.elim)
  obtain ⟨hr, hw⟩ := hh
  rw [hr, hw]
  refine V_astore_n dL_law_7 rfl (Nat.le_of_ble_eq_true rfl) (Nat.le_of_ble_eq_true rfl) ?_
  refine V_new (k' := 34 + 1802 * 64) (n' := 1516 + 12620 * 64) (fs := mIs 0) 1000 k_X5 dL_law_8 q1158 q1159 q103 (by decide +kernel) (w2_no ⟨by decide, by decide⟩) (.inr (by decide)) (w2_nr (by decide)) (nel_c (ne_r (by decide)) (nel_c (ne_r (by decide)) (nel_n (nel_n nel_0)))) nes_0 ⟨Nat.le_refl _, Nat.le_refl _⟩ ?_
  refine V_dup dL_law_11 rfl ?_
  show V l ML (room_1, fL, QT, xX0) 12 _ _ (w3 L xs) _ _
  refine V_callI (k' := 1802 * 64) (n' := 12620 * 64) (m_initL l) dL_law_12 q1162 q103 q1160 q1161 rfl hs_X5_init (xfit_L ⟨by decide, by decide⟩ ⟨Nat.le_refl _, Nat.le_refl _⟩) rfl (Nat.le_of_ble_eq_true rfl) mF_L (okl_c (ok_r (show ¬ mF 990 from by unfold mF; decide)) (okl_c (ok_r (show ¬ mF 0 from by unfold mF; decide)) (okl_n (okl_n okl_0)))) (oks_c (ok_r (show ¬ mF 1000 from by unfold mF; decide)) oks_0) (fun r w' hh => ?_) (fun _ _ _ h => h.elim)
  obtain ⟨hr2, hw2⟩ := hh
  rw [hr2, hw2]
  refine V_astore_n dL_law_15 rfl (Nat.le_of_ble_eq_true rfl) (Nat.le_of_ble_eq_true rfl) ?_
  refine V_iconst dL_law_16 li_0 ?_
  refine V_istore_n dL_law_17 rfl (Nat.le_of_ble_eq_true rfl) (Nat.le_of_ble_eq_true rfl) ?_
  exact law_loop l hl hL 64 0 mZero XBl rfl INV_0

