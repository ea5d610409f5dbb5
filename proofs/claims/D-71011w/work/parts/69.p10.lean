/-! PromiseTailor's side: rows for years -/
set_option maxRecDepth 100000
section
variable {l : Launch} {M : xM} {S : xS} {pc : Nat} {ls : List (Option Value)} {st : List Value} {w : xW} {k n : Nat}
/-- a cell of ints into an array of such cells -/
theorem V_aastA {a v N N2 : Nat} {f f2 : Nat → Value} {i : Int32} (hd : decode M.2.1 pc = .ok (.aastore, 1)) (hw : w a = some (.inl (.array .int, true, N, f))) (hin : vp_in i N) (hv : w v = some (.inl (.int, true, N2, f2)))
    (kk : V l M S (pc + 1) ls st (upw w a (.inl (.array .int, true, N, xup f i.toNatClampNeg (.ref v)))) k n) : V l M S pc ls (.ref v :: .int i :: .ref a :: st) w k n := by
  intro p e s m args below meth c H locs lsA D ad0 ad A cells slots hC hN hL hk hn
  have hE := hC.2.2.2.2.2.2.2.2.2.2.2.1
  obtain ⟨cell, q1, q2, q3, q4, q5, q6, q7⟩ := (hN.1.1 _ _ hw).1
  have hlt : i.toNatClampNeg < N := Nat.not_le.mp fun q => hin (Or.inr q)
  have h0 : ¬ i < 0 := fun q => hin (Or.inl q)
  obtain ⟨comp, cA, kA, f1, f2, f3, f4, f5⟩ := arrayOverA_spec hE.2.2.2.2
  have hcA : cA = cell.cls := Option.some.inj (f5.symm.trans (q7 rfl).1)
  subst hcA
  obtain ⟨kE, hkE, -⟩ := Vm.findClass_spec f1
  obtain ⟨cv, v1, v2, v3⟩ := xIs_recv (C := "[I") hC hN (.inr ⟨_, _, _, hv, by decide⟩)
  obtain ⟨kC, hkC, -⟩ := Vm.findClass_spec v3
  have hinst : s.vm.assignable cv.cls comp = true := by
    have h2 : comp = cv.cls := Option.some.inj (f1.symm.trans v3)
    rw [h2]
    exact Vm.assignable_self _ _
  refine W.aast hC.1 hC.2.1 q1 (fun q h => by rw [h] at q4; cases q4) q3 f3 f4 rfl hkE ⟨h0, by rw [q5]; exact hlt⟩ v1 (fun q h => by rw [h] at v2; cases v2) hkC hinst rfl rfl hd fun H' e1 e2 e3 => ?_
  exact kk p e s m args below meth c H' _ lsA D ad0 ad A cells slots hC (hN.set hw rfl (xat_store (v := .ref v) q2 q3 q4 q5 q6 q7 hlt e1) e2 e3) hL hk hn
end
section
variable {l : Launch} {M : xM} {S : xS} {pc : Nat} {ls : List (Option Value)} {st : List Value} {X : xSt} {k n : Nat}
theorem asV_2 {X : xSt} {i : Nat} (h : X 52 i = nI 2) : asV X i = .ref (1216 + i) := by
  unfold asV
  rw [h, if_neg (by decide +kernel), if_neg (by decide +kernel)]
theorem asV_1 {X : xSt} {i : Nat} (h : X 52 i = nI 1) : asV X i = .ref (1472 + i) := by
  unfold asV
  rw [h, if_neg (by decide +kernel), if_pos rfl]
theorem wX_as {X : xSt} {i : Nat} {v : Int32} {u : Value} (hi : i < 8) (h : asV (mwr X 52 i v) i = u) : upw (wX X) 708 (.inl (.array .int, true, 8, xup (cutV 8 (asV X)) i u)) = wX (mwr X 52 i v) := by
  refine wX_set rfl ((wX_aside _).trans ?_) (fun n hn => by rw [dep_52]; exact hn)
  congr 5
  funext q
  unfold cutV xup
  by_cases z : q = i
  · subst z
    rw [if_pos rfl]
    rw [if_pos hi]; exact h
  · rw [if_neg z]
    dsimp only
    by_cases y : q < 8
    · rw [if_pos y, if_pos y]
      exact asV_dep (mwr_q _ _ _ _ z)
    · rw [if_neg y, if_neg y]
/-- a keeping's row into aside -/
theorem Vx_st_aside {i : Int32} {x v : Nat} (hd : decode M.2.1 pc = .ok (.aastore, 1)) (hi : i = nI x) (hx : x < 8) (hv : v = 1216 + x) (hs : x < std X 2) (kk : V l M S (pc + 1) ls st (wX (mwr X 52 x (nI 2))) k n) : V l M S pc ls (.ref v :: .int i :: .ref 708 :: st) (wX X) k n := by
  subst hi
  subst hv
  refine V_aastA hd (wX_aside X) (vp_in_nI hx (by decide)) (wX_ke X (by omega) hs) ?_
  rw [nI_clamp (by omega), wX_as hx (asV_2 (mwr_s _ _ _ _))]
  exact kk
theorem Vx_ld_aside {i : Int32} {x : Nat} (hd : decode M.2.1 pc = .ok (.aaload, 1)) (hi : i = nI x) (hx : x < 8) (h2 : X 52 x = nI 2) (kk : V l M S (pc + 1) ls (.ref (1216 + x) :: st) (wX X) k n) : V l M S pc ls (.int i :: .ref 708 :: st) (wX X) k n := by
  subst hi
  exact V_aald hd rfl (wX_aside X) (vp_in_nI hx (by decide)) (by rw [nI_clamp (by omega), cutV_at hx]; exact asV_2 h2) kk
/-- the row is an old one -/
theorem Vx_old {x : Nat} (hx : x < 8) (h2 : X 52 x = nI 2) (hk : cnt X 2 ≤ 8) (hc : ∀ q, q < 6 → cnt X q ≤ 10) (hn : wX X (1472 + x) = none) (hF : S.2.1 (1472 + x)) (hls : ∀ v, some v ∈ ls → v ≠ .ref (1472 + x)) (hst : ∀ v ∈ st, v ≠ .ref (1472 + x)) (kk : V l M S pc ls st (wX (mwr X 52 x (nI 1))) k n) : V l M S pc ls st (wX X) k n := by
  refine V_alias (wX_aside X) (j := x) (b := 1216 + x) (by rw [cutV_at hx]; exact asV_2 h2) hn hF (fun m c hm => wX_nr hk ?_ hm) hls hst ?_
  · unfold tgt
    rintro (z | ⟨q, z, y, -⟩ | z | ⟨s, z, y, -⟩ | z | ⟨q, i, z, y, e⟩ | ⟨i, z, -, (⟨y, e⟩ | ⟨-, e⟩)⟩)
    · omega
    · omega
    · omega
    · omega
    · omega
    · have := hc q z; omega
    · have : i = x := by omega
      subst this
      rw [h2] at y
      exact absurd y (by decide +kernel)
    · omega
  · rw [wX_as hx (asV_1 (mwr_s _ _ _ _))]
    exact kk
/-- with no keepings it is all one whose rows they are -/
theorem wX_mode {X : xSt} {v : Int32} (h : cnt X 2 = 0) : wX (mwr X 53 0 v) = wX X := by
  funext n
  by_cases e : n = 258
  · subst e
    have hc : cnt (mwr X 53 0 v) 2 = 0 := h
    by_cases z : X 50 2 = 0
    · rw [show 258 = 256 + 2 from rfl, wX_da0 X (by decide) z, wX_da0 _ (by decide) (by rw [mwr_r _ _ _ _ (by decide)]; exact z)]
    · rw [show 258 = 256 + 2 from rfl, wX_da X ⟨by decide, z⟩, wX_da _ ⟨by decide, by rw [mwr_r _ _ _ _ (by decide)]; exact z⟩]
      congr 5
      funext i
      rw [h, hc, if_neg (Nat.not_lt_zero i), if_neg (Nat.not_lt_zero i)]
  · exact wX_mwr (by rw [dep_53]; exact e)
/-- which names a year may give anew -/
def fG (X : xSt) (n : Nat) : Prop := fF X n ∨ n = 258 ∨ (1472 ≤ n ∧ n < 1480)
theorem fG_lo {X : xSt} : ∀ n, 900 ≤ n → n < 950 → ¬ fG X n := fun n h1 h2 h => by
  rcases h with h | h | h
  · exact fF_lo n h1 h2 h
  · omega
  · omega
def AS (X : xSt) : Prop := ∀ i, i < 8 → X 52 i = 0 ∨ X 52 i = nI 1
/-- other keepings over the same that was told -/
theorem XT_y {S T Y X : xSt} (h : XT S Y) (ha : AP S T) (hr : ∀ r, r ≠ 10 → r ≠ 25 → r ≠ 26 → r ≠ 45 → r ≠ 49 → r ≠ 50 → r ≠ 51 → r ≠ 52 → r ≠ 53 → X r = Y r) (h50 : ∀ q, q ≠ 2 → X 50 q = Y 50 q) (hL : LQ X 2) (hc : bd (X 10 0) 8) (hP : PV T) (hK : XK T X) (hO : XO T X) : XT T X := by
  have R : ∀ r, (r < 10 ∨ (10 < r ∧ r < 25) ∨ (26 < r ∧ r < 45) ∨ (45 < r ∧ r < 49) ∨ 53 < r) → X r = Y r := fun r z => hr r (by omega) (by omega) (by omega) (by omega) (by omega) (by omega) (by omega) (by omega) (by omega)
  have hBX : BX X := by
    have hB := h.1
    have s2 : ∀ q, q < 6 → q ≠ 2 → szr q ≠ 10 := fun q a b z => by
      match q, a, b, z with
      | 0, _, _, z => exact absurd z (by decide)
      | 1, _, _, z => exact absurd z (by decide)
      | 2, _, b, _ => exact b rfl
      | 3, _, _, z => exact absurd z (by decide)
      | 4, _, _, z => exact absurd z (by decide)
      | 5, _, _, z => exact absurd z (by decide)
    have e : ∀ q, q < 6 → q ≠ 2 → X (szr q) = Y (szr q) := fun q a b => R _ (by have := @szr_b q; have := s2 q a b; omega)
    have b10 := bd_v hc (by decide)
    refine ⟨?_, fun q hq => ?_, ?_⟩
    · unfold CB
      have := hB.1
      unfold CB at this
      have k8 : cnt X 2 ≤ 8 := by unfold cnt; rw [show szr 2 = 10 from rfl]; omega
      refine ⟨fun q hq => ?_, k8⟩
      by_cases z : q = 2
      · rw [z]; omega
      · unfold cnt
        rw [e q hq z]
        exact this.1 q hq
    · by_cases z : q = 2
      · rw [z]; exact hL
      · have f := hB.2.1 q hq
        exact LQ_ofp (e q hq z) (h50 q z) f
    · have f := hB.2.2
      rw [R 0 (by omega), R 1 (by omega), R 47 (by omega), R 2 (by omega), R 5 (by omega), R 13 (by omega), R 17 (by omega), R 34 (by omega)]
      refine ⟨f.1, f.2.1, f.2.2.1, f.2.2.2.1, f.2.2.2.2.1, fun q a b => ?_, f.2.2.2.2.2.2.1, f.2.2.2.2.2.2.2.1, hc, f.2.2.2.2.2.2.2.2.2.1, f.2.2.2.2.2.2.2.2.2.2.1, f.2.2.2.2.2.2.2.2.2.2.2⟩
      unfold std cnt
      rw [R 54 (by omega), e q a b]
      exact f.2.2.2.2.2.1 q a b
  obtain ⟨-, hC, -, -, -, hTB, h0, h1, hl0, hl1⟩ := h
  refine ⟨hBX, fun j hj => by rw [R j (by omega), ha.1 j hj]; exact hC j hj, hK, hO, hP, ⟨fun k hk => ?_, fun p hp => ?_⟩, ?_, ?_, fl0_c (R 0 (by omega)) (R 1 (by omega)) (by rw [R 47 (by omega)]) (by rw [R 48 (by omega)]) hl0, fl1_c (R 0 (by omega)) (R 1 (by omega)) (by rw [R 47 (by omega)]) (by rw [R 48 (by omega)]) hl1⟩
  · rw [ha.2.1] at hk
    rw [(ha.2.2.2.1 k hk).1, (ha.2.2.2.1 k hk).2]
    exact hTB.1 k hk
  · rw [ha.2.2.1] at hp
    rw [(ha.2.2.2.2 p hp).2.1]
    exact hTB.2 p hp
  · rw [R 47 (by omega)]
    rcases h0 with z | z
    · refine .inl ⟨z.1, ?_⟩
      unfold sy0
      rw [ha.2.1, R 2 (by omega), R 3 (by omega), R 4 (by omega)]
      exact ⟨z.2.1, fun k hk => by rw [(ha.2.2.2.1 k hk).1, (ha.2.2.2.1 k hk).2]; exact z.2.2 k hk⟩
    · exact .inr ⟨z.1, pr0_c (ha.1 0 (by unfold cj; omega)) (ha.1 1 (by unfold cj; omega)) ha.2.1 ha.2.2.2.1 z.2⟩
  · rw [R 47 (by omega)]
    rcases h1 with z | z
    · refine .inl ⟨z.1, ?_⟩
      unfold sy1
      rw [ha.2.2.1, R 5 (by omega), R 6 (by omega), R 7 (by omega), R 8 (by omega), R 9 (by omega)]
      refine ⟨z.2.1, fun k hk => ?_⟩
      have b := ha.2.2.2.2 k hk
      rw [b.1, b.2.1, b.2.2.1, b.2.2.2]
      exact z.2.2 k hk
    · exact .inr ⟨z.1, pr1_c (ha.1 0 (by unfold cj; omega)) (ha.1 1 (by unfold cj; omega)) ha.2.2.1 ha.2.2.2.2 z.2⟩
end
set_option maxHeartbeats 4000000 in
theorem x_lot (l : Launch) {X : xSt} {m : Nat} (h0 : 0 < m) (hm : m < 1000) : Cy l yX0_lot (ws_ yX0_lot cX0_lot 2 (some .int)) 0 [.ref 0, .int (nI m)] X (fun r X' => ∃ x, r = some (.int x) ∧ x = nI (hN (lcI (X 45 4)) % m) ∧ X' = mwr X 45 4 (lcI (X 45 4))) := by
  refine Cz_start (ls := [some (.ref 0), some (.int (nI m))]) (by decide) rfl (Nat.le_of_ble_eq_true rfl) (fun _ _ _ h => h) ?_
  intro Q hQ
  have hr := hN_lt (lcI (X 45 4))
  have hr2 := Nat.mod_lt (hN (lcI (X 45 4))) h0
  refine V_aload_n dX0_lot_0 rfl ?_
  refine V_ldcw dX0_lot_1 q1023 ?_
  refine V_aload_n dX0_lot_4 rfl ?_
  refine V_getf (i := 20) k_X0 dX0_lot_5 (by decide) q247 (wX_obj _) rfl ?_
  refine V_imul dX0_lot_8 ?_
  refine V_sipush dX0_lot_9 ls_12345 ?_
  refine V_iadd dX0_lot_12 ?_
  refine V_topi (show _ = lcI (X 45 4) from rfl) ?_
  refine Vx_put20 dX0_lot_13 q247 ?_
  refine V_aload_n dX0_lot_16 rfl ?_
  refine V_getf (i := 20) k_X0 dX0_lot_17 (by decide) q247 (wX_obj _) rfl ?_
  rw [mwr_s]
  refine V_bipush dX0_lot_20 lb_16 ?_
  refine V_iushr dX0_lot_22 rfl ?_
  refine V_topi (hi_eq _) ?_
  refine V_iload_n dX0_lot_23 rfl ?_
  refine V_irem dX0_lot_24 (fun e => by have := nI_inj0 e (by omega); omega) ?_
  refine V_topi (pk_rem (by omega) (by omega) (by omega)) ?_
  exact V_ireturn dX0_lot_25 rfl (hQ _ _ ⟨_, rfl, ⟨rfl, rfl⟩⟩)
