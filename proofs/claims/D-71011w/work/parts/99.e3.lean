/-! PromiseTailor's constructor, whole -/
set_option maxRecDepth 100000
theorem bl_li {q : Nat} (h : q < 6) : wX XBl (192 + q) = some (.inr (3, true, [.int (nI 0), .ref 904, .int 0])) := by
  rw [wX_li XBl h]
  unfold lifs
  rw [XBl_0 (by decide), XBl_0 (by decide), if_pos rfl, XBl_0 (by have := @szr_b q; omega)]
  rfl
theorem bl_sh {s : Nat} (h : s < 4) : wX XBl (768 + s) = some (.inr (6, true, [.null])) := by
  rw [wX_sh XBl h, if_pos (XBl_0 (by decide))]
theorem asg_self (vm : Vm) (c : ClassId) : vm.assignable c c = true := by
  unfold Vm.assignable Vm.assignableAux
  simp
def xsh (k : Nat) : xC := .inl (.object "PromiseTailor$Sheet", true, 4, fun i => if i < k then .ref (768 + i) else .null)
theorem xsh_0 {w : xW} : upw w 710 (.inl (.object "PromiseTailor$Sheet", true, 4, fun _ => .null)) = upw w 710 (xsh 0) := by
  unfold xsh
  congr 5
theorem xshN {k : Nat} (a : Nat) (h : 768 + k ≤ a) : xnr a (xsh k) := by
  intro j hj e
  dsimp only at e
  by_cases c : j < k
  · rw [if_pos c] at e
    have e2 : 768 + j = a := Value.ref.inj e
    omega
  · rw [if_neg c] at e; cases e
theorem wI_tW0 {L : List (Nat × Nat)} {fs : List Value} {c : xC} (_ : True) : tW0 (upw (wI L fs) 64 c) = wI ((64, 65) :: (128, 129) :: (192, 193) :: L) fs := by
  unfold tW0
  rw [upw_comm (a := 64) (b := 192) (by decide), upw_comm (a := 64) (b := 128) (by decide), upw_upw, wI_new (a := 192) (by decide) (bl_li (q := 0) (by decide)), wI_new (a := 128) (by decide) (wX_by0 XBl), wI_new (a := 64) (by decide) ((wX_tx0 XBl).trans (by unfold txfs; rw [XBl_0 (by decide), XBl_0 (by decide), XBl_0 (by decide), XBl_0 (by decide)]; rfl))]
theorem wI_tW1 {L : List (Nat × Nat)} {fs : List Value} {c : xC} (_ : True) : tW1 (upw (wI L fs) 65 c) = wI ((65, 66) :: (129, 130) :: (193, 194) :: L) fs := by
  unfold tW1
  rw [upw_comm (a := 65) (b := 193) (by decide), upw_comm (a := 65) (b := 129) (by decide), upw_upw, wI_new (a := 193) (by decide) (bl_li (q := 1) (by decide)), wI_new (a := 129) (by decide) (wX_by1 XBl), wI_new (a := 65) (by decide) ((wX_tx1 XBl).trans (by unfold txfs; rw [XBl_0 (by decide), XBl_0 (by decide), XBl_0 (by decide), XBl_0 (by decide)]; rfl))]
theorem V_shst {l : Launch} {M : xM} {S : xS} {pc : Nat} {ls : List (Option Value)} {st : List Value} {w : xW} {k0 n : Nat} (hd : decode M.2.1 pc = .ok (.aastore, 1)) {k : Nat} (hk : k < 4) (hv : upw w 710 (xsh k) (768 + k) = some (.inr (6, true, [.null]))) (kk : V l M S (pc + 1) ls st (upw w 710 (xsh (k + 1))) k0 n) : V l M S pc ls (.ref (768 + k) :: .int (nI k) :: .ref 710 :: st) (upw w 710 (xsh k)) k0 n := by
  refine V_aast (E := "PromiseTailor$Sheet") (C := "PromiseTailor$Sheet") hd (fun _ h => h.2.2.2.1) upw_self (vp_in_nI hk (by decide)) (.inl ⟨6, true, [.null], _, hv, cl_X4, rfl⟩) (.inl ⟨rfl, nw q1698 rfl⟩) (fun _ U hE => ?_) ?_
  · obtain ⟨c0, t0, g1, -, -⟩ := Cond.castable_spec (va_Nw.use (A := #[]) rfl (hE.1 _ (nw q1698 rfl)))
    exact ⟨c0, g1, asg_self _ _⟩
  · rw [upw_upw, nI_clamp (by omega)]
    have e : xup (fun i => if i < k then Value.ref (768 + i) else .null) k (.ref (768 + k)) = fun i => if i < k + 1 then Value.ref (768 + i) else .null := by
      funext i
      unfold xup
      dsimp only
      by_cases h : i = k
      · rw [if_pos h, h, if_pos (by omega)]
      · rw [if_neg h]
        by_cases h2 : i < k
        · rw [if_pos h2, if_pos (by omega)]
        · rw [if_neg h2, if_neg (by omega)]
    rw [e]
    exact kk
theorem AO_sheet : ∀ U, xEnv U → va_AO "PromiseTailor$Sheet" U := fun _ h => h.2.2.2.1
set_option maxHeartbeats 4000000 in
theorem x_initX4 (l : Launch) {w : xW} {b : Nat} : Cr l yX4_init cX4_init 1 none 1 0 0 xF0 [.ref b] w none w := by
  refine Cr_start (ls := [some (.ref b)]) (by decide) rfl (Nat.le_of_ble_eq_true rfl) (fun _ _ _ h => h) ?_
  intro Q hQ
  refine V_aload_n dX4_init_0 rfl ?_
  refine V_objInit dX4_init_1 q220 q131 q132 ⟨Nat.le_of_ble_eq_true rfl, Nat.le_of_ble_eq_true rfl⟩ (by decide) ?_
  exact V_vreturn dX4_init_4 rfl hQ
theorem mdP_of {L : List (Nat × Nat)} {n : Nat} (r : Nat × Nat) (h : r ∈ L) (hn : r.1 ≤ n ∧ n < r.2) : mdP L n := by
  induction L with
  | nil => cases h
  | cons a L ih =>
    cases h with
    | head => exact mdP_c.mpr (.inl hn)
    | tail _ h => exact mdP_c.mpr (.inr (ih h))
def LBl : List (Nat × Nat) := [(710, 711), (771, 772), (770, 771), (769, 770), (768, 769), (709, 709 + 1), (640, 640 + 8), (708, 709), (707, 707 + 1), (576, 576 + 10), (197, 198), (706, 706 + 1), (512, 512 + 24), (705, 705 + 1), (448, 448 + 24), (704, 704 + 1), (384, 384 + 24), (322, 323), (321, 322), (320, 321), (196, 197), (195, 196), (194, 195), (65, 66), (129, 130), (193, 194), (64, 65), (128, 129), (192, 193), (900, 950)]
theorem XBl_dom {n : Nat} {c : xC} (h : wX XBl n = some c) (h0 : n ≠ 0) : mdP LBl n := by
  unfold wX at h
  have e : n = 64 * (n / 64) + n % 64 := (Nat.div_add_mod n 64).symm
  generalize n / 64 = b at h e
  generalize n % 64 = d at h e
  have no : ∀ {C : Prop} [Decidable C] {x : xC}, (if C then some x else none) = some c → C := fun {C} _ {x} h => by
    by_cases z : C
    · exact z
    · rw [if_neg z] at h; cases h
  have x0 : ∀ {r i : Nat}, r ≠ 45 → ¬ XBl r i ≠ 0 := fun h z => z (XBl_0 h)
  have s0 : ∀ q, ¬ d < std XBl q := fun q => by unfold std; rw [XBl_0 (by decide), show vN 0 = 0 from by decide +kernel]; exact Nat.not_lt_zero _
  have R : ∀ r, r ∈ LBl → r.1 ≤ n ∧ n < r.2 → mdP LBl n := fun r h hn => mdP_of r h hn
  match b, h with
  | 0, h => have z : d = 0 := no (show cl0 XBl d = some c from h); omega
  | 1, h => have z : d < 2 := no (show cl1 XBl d = some c from h); rcases (show d = 0 ∨ d = 1 by omega) with f | f; exact R (64, 65) (by decide) (by omega); exact R (65, 66) (by decide) (by omega)
  | 2, h => have z : d < 2 := no (show cl2 XBl d = some c from h); rcases (show d = 0 ∨ d = 1 by omega) with f | f; exact R (128, 129) (by decide) (by omega); exact R (129, 130) (by decide) (by omega)
  | 3, h => have z : d < 6 := no (show cl3 XBl d = some c from h); rcases (show d = 0 ∨ d = 1 ∨ d = 2 ∨ d = 3 ∨ d = 4 ∨ d = 5 by omega) with f | f | f | f | f | f; exact R (192, 193) (by decide) (by omega); exact R (193, 194) (by decide) (by omega); exact R (194, 195) (by decide) (by omega); exact R (195, 196) (by decide) (by omega); exact R (196, 197) (by decide) (by omega); exact R (197, 198) (by decide) (by omega)
  | 4, h => have z : d < 6 ∧ XBl 50 d ≠ 0 := no (show cl4 XBl d = some c from h); exact absurd z.2 (x0 (by decide))
  | 5, h => have z : d < 3 := no (show cl5 XBl d = some c from h); rcases (show d = 0 ∨ d = 1 ∨ d = 2 by omega) with f | f | f; exact R (320, 321) (by decide) (by omega); exact R (321, 322) (by decide) (by omega); exact R (322, 323) (by decide) (by omega)
  | 6, h => have z : d < 24 := no (show cl6 XBl d = some c from h); exact R (384, 384 + 24) (by decide) (by omega)
  | 7, h => have z : d < 24 := no (show cl7 XBl d = some c from h); exact R (448, 448 + 24) (by decide) (by omega)
  | 8, h => have z : d < 24 := no (show cl8 XBl d = some c from h); exact R (512, 512 + 24) (by decide) (by omega)
  | 9, h => have z : d < 10 := no (show cl9 XBl d = some c from h); exact R (576, 576 + 10) (by decide) (by omega)
  | 10, h => have z : d < 8 := no (show cl10 XBl d = some c from h); exact R (640, 640 + 8) (by decide) (by omega)
  | 11, h =>
    have z : d < 7 := by
      match d, h with
      | 0, _ => decide
      | 1, _ => decide
      | 2, _ => decide
      | 3, _ => decide
      | 4, _ => decide
      | 5, _ => decide
      | 6, _ => decide
      | d + 7, h => exact absurd (show none = some c from h) (fun z => nomatch z)
    rcases (show d = 0 ∨ d = 1 ∨ d = 2 ∨ d = 3 ∨ d = 4 ∨ d = 5 ∨ d = 6 by omega) with f | f | f | f | f | f | f; exact R (704, 704 + 1) (by decide) (by omega); exact R (705, 705 + 1) (by decide) (by omega); exact R (706, 706 + 1) (by decide) (by omega); exact R (707, 707 + 1) (by decide) (by omega); exact R (708, 709) (by decide) (by omega); exact R (709, 709 + 1) (by decide) (by omega); exact R (710, 711) (by decide) (by omega)
  | 12, h => have z : d < 4 := no (show cl12 XBl d = some c from h); rcases (show d = 0 ∨ d = 1 ∨ d = 2 ∨ d = 3 by omega) with f | f | f | f; exact R (768, 769) (by decide) (by omega); exact R (769, 770) (by decide) (by omega); exact R (770, 771) (by decide) (by omega); exact R (771, 772) (by decide) (by omega)
  | 13, h => have z : d < 4 ∧ XBl 39 d ≠ 0 := no (show cl13 XBl d = some c from h); exact absurd z.2 (x0 (by decide))
  | 14, h =>
    have z : 3 < d ∧ d < 30 := by
      have h : cl14 XBl d = some c := h
      by_cases q : 3 < d ∧ d < 30
      · exact q
      · unfold cl14 at h
        rw [if_neg (by omega), if_neg (by omega), if_neg (by omega), if_neg (by omega), if_neg (by omega)] at h
        cases h
    exact R (900, 950) (by decide) (by omega)
  | 15, h => cases h
  | 16, h => cases h
  | 17, h => exact absurd (no (show cl17 XBl d = some c from h)) (s0 0)
  | 18, h => exact absurd (no (show cl18 XBl d = some c from h)) (s0 1)
  | 19, h => exact absurd (no (show cl19 XBl d = some c from h)) (s0 2)
  | 20, h => exact absurd (no (show cl20 XBl d = some c from h)) (s0 3)
  | 21, h => exact absurd (no (show cl21 XBl d = some c from h)) (s0 4)
  | 22, h => exact absurd (no (show cl22 XBl d = some c from h)) (s0 5)
  | b + 23, h => exact absurd (show none = some c from h) (fun z => nomatch z)
theorem x0fs_bl : x0fs XBl = [.int 0, .ref 64, .ref 65, .ref 194, .ref 195, .ref 196, .ref 320, .ref 321, .ref 322, .ref 704, .ref 705, .ref 706, .int 0, .int 0, .int (-1), .int 0, .int (-1), .int 0, .ref 197, .ref 707, .int 0, .ref 708, .ref 709, .ref 710] := by
  unfold x0fs
  rw [XBl_0 (by decide), XBl_0 (by decide), XBl_0 (by decide), show XBl 45 0 = -1 from rfl, show XBl 45 1 = 0 from rfl, show XBl 45 2 = -1 from rfl, show XBl 45 3 = 0 from rfl, show XBl 45 4 = 0 from rfl]
theorem wI_all : ∀ n c, wX XBl n = some c → wI LBl [.int 0, .ref 64, .ref 65, .ref 194, .ref 195, .ref 196, .ref 320, .ref 321, .ref 322, .ref 704, .ref 705, .ref 706, .int 0, .int 0, .int (-1), .int 0, .int (-1), .int 0, .ref 197, .ref 707, .int 0, .ref 708, .ref 709, .ref 710] n = some c := by
  intro n c h
  by_cases h0 : n = 0
  · subst h0
    rw [wI_0, ← x0fs_bl]
    exact (wX_obj XBl).symm.trans h
  · rw [wI_at h0 (XBl_dom h h0)]
    exact h
set_option maxHeartbeats 4000000 in
theorem x_init (l : Launch) : Cn l yX0_init (ws_ yX0_init cX0_init 1 none) (rmD 6 114 1116, fI, (fun r w' => r = none ∧ w' = wX XBl), xX0) [.ref 0] (wI [(900, 950)] [.int 0, .null, .null, .null, .null, .null, .null, .null, .null, .null, .null, .null, .int 0, .int 0, .int 0, .int 0, .int 0, .int 0, .null, .null, .int 0, .null, .null, .null]) := by
  refine Cn_start (ls := [some (.ref 0)]) (by decide) rfl (Nat.le_of_ble_eq_true rfl) fI_lo ?_
  generalize hQQ : (fun (r : Option Value) (w' : xW) => r = none ∧ w' = wX XBl) = Q
  have hQ : Q none (wX XBl) := by rw [← hQQ]; exact ⟨rfl, rfl⟩
  clear hQQ
  show V l _ _ _ _ _ _ 114 1116
  refine V_aload_n dX0_init_0 rfl ?_
  refine V_objInit dX0_init_1 q130 q131 q132 ⟨Nat.le_of_ble_eq_true rfl, Nat.le_of_ble_eq_true rfl⟩ (by decide) ?_
  refine V_aload_n dX0_init_4 rfl ?_
  refine V_new (k' := 113) (n' := 1109) (fs := [.null, .int 0, .int 0, .int 0, .int 0, .int 0, .null]) 64 k_X2 dX0_init_5 q133 q134 q97 (by decide +kernel) (wI_no (by decide) (by decide)) ⟨by decide, by decide⟩ (wI_nr (nrc nrI (nrc nrN (nrc nrN (nrc nrN (nrc nrN (nrc nrN (nrc nrN (nrc nrN (nrc nrN (nrc nrN (nrc nrN (nrc nrN (nrc nrI (nrc nrI (nrc nrI (nrc nrI (nrc nrI (nrc nrI (nrc nrN (nrc nrN (nrc nrI (nrc nrN (nrc nrN (nrc nrN nr0)))))))))))))))))))))))) (fun n hn hm => by unfold men at hm; omega)) (nel_c (ne_r (by decide)) nel_0) (nes_c (ne_r (by decide)) nes_0) ⟨by decide, by decide⟩ ?_
  refine V_dup dX0_init_8 rfl ?_
  refine Vr_i (k' := 111) (n' := 1083) (x_initX2 l upw_self (by rw [upw_ne (by decide)]; exact wI_no (by decide) (by decide)) (by rw [upw_ne (by decide)]; exact wI_no (by decide) (by decide)) (fun a ha => upw_nr (xnr_o (by rcases ha with ha | ha <;> subst ha <;> exact (nrc nrN (nrc nrI (nrc nrI (nrc nrI (nrc nrI (nrc nrI (nrc nrN nr0))))))))) (wI_nr (by rcases ha with ha | ha <;> subst ha <;> exact (nrc nrI (nrc nrN (nrc nrN (nrc nrN (nrc nrN (nrc nrN (nrc nrN (nrc nrN (nrc nrN (nrc nrN (nrc nrN (nrc nrN (nrc nrI (nrc nrI (nrc nrI (nrc nrI (nrc nrI (nrc nrI (nrc nrN (nrc nrN (nrc nrI (nrc nrN (nrc nrN (nrc nrN nr0))))))))))))))))))))))))) (fun n hn hm => by unfold men at hm; rw [show n = 64 from by omega] at hn; exact absurd hn (by decide))))) dX0_init_9 q137 q97 q135 q136 rfl hs_X2_init (by decide) rfl (Nat.le_of_ble_eq_true rfl) (fun n hn => by unfold fT at hn; unfold fI; omega) (okl_c (ok_r (by unfold fT; decide)) okl_0) (oks_c (ok_r (by unfold fT; decide)) (oks_c (ok_r (by unfold fT; decide)) oks_0)) ⟨by decide, by decide⟩ ?_
  rw [wI_tW0 (by decide)]
  refine V_putF (i := 1) k_X0 dX0_init_12 (by decide) q228 rfl rfl rfl wI_0 (Nat.le_of_ble_eq_true rfl) (fun _ => rfl) (fun _ => rfl) ?_
  rw [wI_fs]
  show V l _ _ _ _ _ (wI [(64, 65), (128, 129), (192, 193), (900, 950)] [.int 0, .ref 64, .null, .null, .null, .null, .null, .null, .null, .null, .null, .null, .int 0, .int 0, .int 0, .int 0, .int 0, .int 0, .null, .null, .int 0, .null, .null, .null]) _ _
  refine V_aload_n dX0_init_15 rfl ?_
  refine V_new (k' := 110) (n' := 1076) (fs := [.null, .int 0, .int 0, .int 0, .int 0, .int 0, .null]) 65 k_X3 dX0_init_16 q195 q196 q101 (by decide +kernel) (wI_no (by decide) (by decide)) ⟨by decide, by decide⟩ (wI_nr (nrc nrI (nrc (nrR (by decide)) (nrc nrN (nrc nrN (nrc nrN (nrc nrN (nrc nrN (nrc nrN (nrc nrN (nrc nrN (nrc nrN (nrc nrN (nrc nrI (nrc nrI (nrc nrI (nrc nrI (nrc nrI (nrc nrI (nrc nrN (nrc nrN (nrc nrI (nrc nrN (nrc nrN (nrc nrN nr0)))))))))))))))))))))))) (fun n hn hm => by unfold men at hm; omega)) (nel_c (ne_r (by decide)) nel_0) (nes_c (ne_r (by decide)) nes_0) ⟨by decide, by decide⟩ ?_
  refine V_dup dX0_init_19 rfl ?_
  refine Vr_i (k' := 108) (n' := 1024) (x_initX3 l upw_self (by rw [upw_ne (by decide)]; exact wI_no (by decide) (by decide)) (by rw [upw_ne (by decide)]; exact wI_no (by decide) (by decide)) (fun a ha => upw_nr (xnr_o (by rcases ha with ha | ha <;> subst ha <;> exact (nrc nrN (nrc nrI (nrc nrI (nrc nrI (nrc nrI (nrc nrI (nrc nrN nr0))))))))) (wI_nr (by rcases ha with ha | ha <;> subst ha <;> exact (nrc nrI (nrc (nrR (by decide)) (nrc nrN (nrc nrN (nrc nrN (nrc nrN (nrc nrN (nrc nrN (nrc nrN (nrc nrN (nrc nrN (nrc nrN (nrc nrI (nrc nrI (nrc nrI (nrc nrI (nrc nrI (nrc nrI (nrc nrN (nrc nrN (nrc nrI (nrc nrN (nrc nrN (nrc nrN nr0))))))))))))))))))))))))) (fun n hn hm => by unfold men at hm; rw [show n = 65 from by omega] at hn; exact absurd hn (by decide))))) dX0_init_20 q199 q101 q197 q198 rfl hs_X3_init (by decide) rfl (Nat.le_of_ble_eq_true rfl) (fun n hn => by unfold fT at hn; unfold fI; omega) (okl_c (ok_r (by unfold fT; decide)) okl_0) (oks_c (ok_r (by unfold fT; decide)) (oks_c (ok_r (by unfold fT; decide)) oks_0)) ⟨by decide, by decide⟩ ?_
  rw [wI_tW1 (by decide)]
  refine V_putF (i := 2) k_X0 dX0_init_23 (by decide) q229 rfl rfl rfl wI_0 (Nat.le_of_ble_eq_true rfl) (fun _ => rfl) (fun _ => rfl) ?_
  rw [wI_fs]
  show V l _ _ _ _ _ (wI [(65, 66), (129, 130), (193, 194), (64, 65), (128, 129), (192, 193), (900, 950)] [.int 0, .ref 64, .ref 65, .null, .null, .null, .null, .null, .null, .null, .null, .null, .int 0, .int 0, .int 0, .int 0, .int 0, .int 0, .null, .null, .int 0, .null, .null, .null]) _ _
  refine V_aload_n dX0_init_26 rfl ?_
  refine V_new (k' := 107) (n' := 1021) (fs := [.int 0, .null, .int 0]) 194 k_J2 dX0_init_27 q209 q143 q100 (by decide +kernel) (wI_no (by decide) (by decide)) ⟨by decide, by decide⟩ (wI_nr (nrc nrI (nrc (nrR (by decide)) (nrc (nrR (by decide)) (nrc nrN (nrc nrN (nrc nrN (nrc nrN (nrc nrN (nrc nrN (nrc nrN (nrc nrN (nrc nrN (nrc nrI (nrc nrI (nrc nrI (nrc nrI (nrc nrI (nrc nrI (nrc nrN (nrc nrN (nrc nrI (nrc nrN (nrc nrN (nrc nrN nr0)))))))))))))))))))))))) (fun n hn hm => by unfold men at hm; omega)) (nel_c (ne_r (by decide)) nel_0) (nes_c (ne_r (by decide)) nes_0) ⟨by decide, by decide⟩ ?_
  refine V_dup dX0_init_30 rfl ?_
  refine Vr_i (k' := 107) (n' := 1021) (j_init l upw_self) dX0_init_31 q146 q100 q210 q145 rfl hs_J2_init (by decide) rfl (Nat.le_of_ble_eq_true rfl) (fun _ h => h.elim) (fun _ _ => xok0) (fun _ _ => xok0) ⟨by decide, by decide⟩ ?_
  rw [upw_upw, wI_new (by decide) (bl_li (q := 2) (by decide))]
  refine V_putF (i := 3) k_X0 dX0_init_34 (by decide) q230 rfl rfl rfl wI_0 (Nat.le_of_ble_eq_true rfl) (fun _ => rfl) (fun _ => rfl) ?_
  rw [wI_fs]
  show V l _ _ _ _ _ (wI [(194, 195), (65, 66), (129, 130), (193, 194), (64, 65), (128, 129), (192, 193), (900, 950)] [.int 0, .ref 64, .ref 65, .ref 194, .null, .null, .null, .null, .null, .null, .null, .null, .int 0, .int 0, .int 0, .int 0, .int 0, .int 0, .null, .null, .int 0, .null, .null, .null]) _ _
  refine V_aload_n dX0_init_37 rfl ?_
  refine V_new (k' := 106) (n' := 1018) (fs := [.int 0, .null, .int 0]) 195 k_J2 dX0_init_38 q209 q143 q100 (by decide +kernel) (wI_no (by decide) (by decide)) ⟨by decide, by decide⟩ (wI_nr (nrc nrI (nrc (nrR (by decide)) (nrc (nrR (by decide)) (nrc (nrR (by decide)) (nrc nrN (nrc nrN (nrc nrN (nrc nrN (nrc nrN (nrc nrN (nrc nrN (nrc nrN (nrc nrI (nrc nrI (nrc nrI (nrc nrI (nrc nrI (nrc nrI (nrc nrN (nrc nrN (nrc nrI (nrc nrN (nrc nrN (nrc nrN nr0)))))))))))))))))))))))) (fun n hn hm => by unfold men at hm; omega)) (nel_c (ne_r (by decide)) nel_0) (nes_c (ne_r (by decide)) nes_0) ⟨by decide, by decide⟩ ?_
  refine V_dup dX0_init_41 rfl ?_
  refine Vr_i (k' := 106) (n' := 1018) (j_init l upw_self) dX0_init_42 q146 q100 q210 q145 rfl hs_J2_init (by decide) rfl (Nat.le_of_ble_eq_true rfl) (fun _ h => h.elim) (fun _ _ => xok0) (fun _ _ => xok0) ⟨by decide, by decide⟩ ?_
  rw [upw_upw, wI_new (by decide) (bl_li (q := 3) (by decide))]
  refine V_putF (i := 4) k_X0 dX0_init_45 (by decide) q231 rfl rfl rfl wI_0 (Nat.le_of_ble_eq_true rfl) (fun _ => rfl) (fun _ => rfl) ?_
  rw [wI_fs]
  show V l _ _ _ _ _ (wI [(195, 196), (194, 195), (65, 66), (129, 130), (193, 194), (64, 65), (128, 129), (192, 193), (900, 950)] [.int 0, .ref 64, .ref 65, .ref 194, .ref 195, .null, .null, .null, .null, .null, .null, .null, .int 0, .int 0, .int 0, .int 0, .int 0, .int 0, .null, .null, .int 0, .null, .null, .null]) _ _
  refine V_aload_n dX0_init_48 rfl ?_
  refine V_new (k' := 105) (n' := 1015) (fs := [.int 0, .null, .int 0]) 196 k_J2 dX0_init_49 q209 q143 q100 (by decide +kernel) (wI_no (by decide) (by decide)) ⟨by decide, by decide⟩ (wI_nr (nrc nrI (nrc (nrR (by decide)) (nrc (nrR (by decide)) (nrc (nrR (by decide)) (nrc (nrR (by decide)) (nrc nrN (nrc nrN (nrc nrN (nrc nrN (nrc nrN (nrc nrN (nrc nrN (nrc nrI (nrc nrI (nrc nrI (nrc nrI (nrc nrI (nrc nrI (nrc nrN (nrc nrN (nrc nrI (nrc nrN (nrc nrN (nrc nrN nr0)))))))))))))))))))))))) (fun n hn hm => by unfold men at hm; omega)) (nel_c (ne_r (by decide)) nel_0) (nes_c (ne_r (by decide)) nes_0) ⟨by decide, by decide⟩ ?_
  refine V_dup dX0_init_52 rfl ?_
  refine Vr_i (k' := 105) (n' := 1015) (j_init l upw_self) dX0_init_53 q146 q100 q210 q145 rfl hs_J2_init (by decide) rfl (Nat.le_of_ble_eq_true rfl) (fun _ h => h.elim) (fun _ _ => xok0) (fun _ _ => xok0) ⟨by decide, by decide⟩ ?_
  rw [upw_upw, wI_new (by decide) (bl_li (q := 4) (by decide))]
  refine V_putF (i := 5) k_X0 dX0_init_56 (by decide) q232 rfl rfl rfl wI_0 (Nat.le_of_ble_eq_true rfl) (fun _ => rfl) (fun _ => rfl) ?_
  rw [wI_fs]
  show V l _ _ _ _ _ (wI [(196, 197), (195, 196), (194, 195), (65, 66), (129, 130), (193, 194), (64, 65), (128, 129), (192, 193), (900, 950)] [.int 0, .ref 64, .ref 65, .ref 194, .ref 195, .ref 196, .null, .null, .null, .null, .null, .null, .int 0, .int 0, .int 0, .int 0, .int 0, .int 0, .null, .null, .int 0, .null, .null, .null]) _ _
  refine V_aload_n dX0_init_59 rfl ?_
  refine V_bipush dX0_init_60 lb_8 ?_
  refine V_newa (ty := .int) (k' := 104) (n' := 1007) (N := 8) (f := cutI 8 (fun i => XBl 27 i)) 320 rfl dX0_init_62 q226 (by decide +kernel) (by decide +kernel) (by decide) (fun j hj => by rw [cutI_at hj, XBl_0 (by decide)]; rfl) (wI_no (by decide) (by decide)) ⟨by decide, by decide⟩ (wI_nr (nrc nrI (nrc (nrR (by decide)) (nrc (nrR (by decide)) (nrc (nrR (by decide)) (nrc (nrR (by decide)) (nrc (nrR (by decide)) (nrc nrN (nrc nrN (nrc nrN (nrc nrN (nrc nrN (nrc nrN (nrc nrI (nrc nrI (nrc nrI (nrc nrI (nrc nrI (nrc nrI (nrc nrN (nrc nrN (nrc nrI (nrc nrN (nrc nrN (nrc nrN nr0)))))))))))))))))))))))) (fun n hn hm => by unfold men at hm; omega)) (nel_c (ne_r (by decide)) nel_0) (nes_c (ne_r (by decide)) nes_0) ⟨by decide, by decide⟩ ?_
  rw [wI_new (by decide) (wX_coats XBl)]
  refine V_putF (i := 6) k_X0 dX0_init_64 (by decide) q233 rfl rfl rfl wI_0 (Nat.le_of_ble_eq_true rfl) (fun _ => rfl) (fun _ => rfl) ?_
  rw [wI_fs]
  show V l _ _ _ _ _ (wI [(320, 321), (196, 197), (195, 196), (194, 195), (65, 66), (129, 130), (193, 194), (64, 65), (128, 129), (192, 193), (900, 950)] [.int 0, .ref 64, .ref 65, .ref 194, .ref 195, .ref 196, .ref 320, .null, .null, .null, .null, .null, .int 0, .int 0, .int 0, .int 0, .int 0, .int 0, .null, .null, .int 0, .null, .null, .null]) _ _
  refine V_aload_n dX0_init_67 rfl ?_
  refine V_bipush dX0_init_68 lb_8 ?_
  refine V_newa (ty := .int) (k' := 103) (n' := 999) (N := 8) (f := cutI 8 (fun i => XBl 28 i)) 321 rfl dX0_init_70 q226 (by decide +kernel) (by decide +kernel) (by decide) (fun j hj => by rw [cutI_at hj, XBl_0 (by decide)]; rfl) (wI_no (by decide) (by decide)) ⟨by decide, by decide⟩ (wI_nr (nrc nrI (nrc (nrR (by decide)) (nrc (nrR (by decide)) (nrc (nrR (by decide)) (nrc (nrR (by decide)) (nrc (nrR (by decide)) (nrc (nrR (by decide)) (nrc nrN (nrc nrN (nrc nrN (nrc nrN (nrc nrN (nrc nrI (nrc nrI (nrc nrI (nrc nrI (nrc nrI (nrc nrI (nrc nrN (nrc nrN (nrc nrI (nrc nrN (nrc nrN (nrc nrN nr0)))))))))))))))))))))))) (fun n hn hm => by unfold men at hm; omega)) (nel_c (ne_r (by decide)) nel_0) (nes_c (ne_r (by decide)) nes_0) ⟨by decide, by decide⟩ ?_
  rw [wI_new (by decide) (wX_torn XBl)]
  refine V_putF (i := 7) k_X0 dX0_init_72 (by decide) q234 rfl rfl rfl wI_0 (Nat.le_of_ble_eq_true rfl) (fun _ => rfl) (fun _ => rfl) ?_
  rw [wI_fs]
  show V l _ _ _ _ _ (wI [(321, 322), (320, 321), (196, 197), (195, 196), (194, 195), (65, 66), (129, 130), (193, 194), (64, 65), (128, 129), (192, 193), (900, 950)] [.int 0, .ref 64, .ref 65, .ref 194, .ref 195, .ref 196, .ref 320, .ref 321, .null, .null, .null, .null, .int 0, .int 0, .int 0, .int 0, .int 0, .int 0, .null, .null, .int 0, .null, .null, .null]) _ _
  refine V_aload_n dX0_init_75 rfl ?_
  refine V_bipush dX0_init_76 lb_10 ?_
  refine V_newa (ty := .int) (k' := 102) (n' := 989) (N := 10) (f := cutI 10 (fun i => XBl 29 i)) 322 rfl dX0_init_78 q226 (by decide +kernel) (by decide +kernel) (by decide) (fun j hj => by rw [cutI_at hj, XBl_0 (by decide)]; rfl) (wI_no (by decide) (by decide)) ⟨by decide, by decide⟩ (wI_nr (nrc nrI (nrc (nrR (by decide)) (nrc (nrR (by decide)) (nrc (nrR (by decide)) (nrc (nrR (by decide)) (nrc (nrR (by decide)) (nrc (nrR (by decide)) (nrc (nrR (by decide)) (nrc nrN (nrc nrN (nrc nrN (nrc nrN (nrc nrI (nrc nrI (nrc nrI (nrc nrI (nrc nrI (nrc nrI (nrc nrN (nrc nrN (nrc nrI (nrc nrN (nrc nrN (nrc nrN nr0)))))))))))))))))))))))) (fun n hn hm => by unfold men at hm; omega)) (nel_c (ne_r (by decide)) nel_0) (nes_c (ne_r (by decide)) nes_0) ⟨by decide, by decide⟩ ?_
  rw [wI_new (by decide) (wX_states XBl)]
  refine V_putF (i := 8) k_X0 dX0_init_80 (by decide) q235 rfl rfl rfl wI_0 (Nat.le_of_ble_eq_true rfl) (fun _ => rfl) (fun _ => rfl) ?_
  rw [wI_fs]
  show V l _ _ _ _ _ (wI [(322, 323), (321, 322), (320, 321), (196, 197), (195, 196), (194, 195), (65, 66), (129, 130), (193, 194), (64, 65), (128, 129), (192, 193), (900, 950)] [.int 0, .ref 64, .ref 65, .ref 194, .ref 195, .ref 196, .ref 320, .ref 321, .ref 322, .null, .null, .null, .int 0, .int 0, .int 0, .int 0, .int 0, .int 0, .null, .null, .int 0, .null, .null, .null]) _ _
  refine V_aload_n dX0_init_83 rfl ?_
  refine V_bipush dX0_init_84 lb_24 ?_
  refine V_bipush dX0_init_86 lb_8 ?_
  refine V_multi (k' := 77) (n' := 773) (N := 24) (K := 8) 704 384 (fun d => cutI 8 (fun i => XBl 30 (8 * d + i))) (fun d j hj => by show cutI 8 _ j = _; rw [cutI_at hj, XBl_0 (by decide)]) dX0_init_88 q211 q226 (by decide +kernel) (by decide +kernel) (by decide +kernel) (by decide +kernel) (by decide) (by decide) (by decide) (fun x hx => ⟨wI_no (by omega) (fun hm => by have hm2 : ∀ y < 1000, (y = 704 ∨ (384 ≤ y ∧ y < 408)) → ¬ mdP [(322, 323), (321, 322), (320, 321), (196, 197), (195, 196), (194, 195), (65, 66), (129, 130), (193, 194), (64, 65), (128, 129), (192, 193), (900, 950)] y := (by decide +kernel); exact hm2 x (by omega) hx hm), ⟨by omega, by omega⟩, wI_nr (by skip; exact (nrc nrI (nrc (nrR (by omega)) (nrc (nrR (by omega)) (nrc (nrR (by omega)) (nrc (nrR (by omega)) (nrc (nrR (by omega)) (nrc (nrR (by omega)) (nrc (nrR (by omega)) (nrc (nrR (by omega)) (nrc nrN (nrc nrN (nrc nrN (nrc nrI (nrc nrI (nrc nrI (nrc nrI (nrc nrI (nrc nrI (nrc nrN (nrc nrN (nrc nrI (nrc nrN (nrc nrN (nrc nrN nr0))))))))))))))))))))))))) (fun n hn hm => by unfold men at hm; rw [show n = 704 from by omega] at hn; exact absurd hn (by decide))⟩) (okl_c (ok_r (by omega)) okl_0) (oks_c (ok_r (by omega)) oks_0) ⟨by decide, by decide⟩ ?_
  rw [wI_upm (by decide) (by decide) (wX_coatsBy XBl) (fun x hx => by obtain ⟨d, rfl⟩ : ∃ d, x = 384 + d := ⟨x - 384, by omega⟩; rw [Nat.add_sub_cancel_left]; exact wX_crow XBl (by omega))]
  refine V_putF (i := 9) k_X0 dX0_init_92 (by decide) q236 rfl rfl rfl wI_0 (Nat.le_of_ble_eq_true rfl) (fun _ => rfl) (fun _ => rfl) ?_
  rw [wI_fs]
  show V l _ _ _ _ _ (wI [(704, 704 + 1), (384, 384 + 24), (322, 323), (321, 322), (320, 321), (196, 197), (195, 196), (194, 195), (65, 66), (129, 130), (193, 194), (64, 65), (128, 129), (192, 193), (900, 950)] [.int 0, .ref 64, .ref 65, .ref 194, .ref 195, .ref 196, .ref 320, .ref 321, .ref 322, .ref 704, .null, .null, .int 0, .int 0, .int 0, .int 0, .int 0, .int 0, .null, .null, .int 0, .null, .null, .null]) _ _
  refine V_aload_n dX0_init_95 rfl ?_
  refine V_bipush dX0_init_96 lb_24 ?_
  refine V_bipush dX0_init_98 lb_8 ?_
  refine V_multi (k' := 52) (n' := 557) (N := 24) (K := 8) 705 448 (fun d => cutI 8 (fun i => XBl 31 (8 * d + i))) (fun d j hj => by show cutI 8 _ j = _; rw [cutI_at hj, XBl_0 (by decide)]) dX0_init_100 q211 q226 (by decide +kernel) (by decide +kernel) (by decide +kernel) (by decide +kernel) (by decide) (by decide) (by decide) (fun x hx => ⟨wI_no (by omega) (fun hm => by have hm2 : ∀ y < 1000, (y = 705 ∨ (448 ≤ y ∧ y < 472)) → ¬ mdP [(704, 704 + 1), (384, 384 + 24), (322, 323), (321, 322), (320, 321), (196, 197), (195, 196), (194, 195), (65, 66), (129, 130), (193, 194), (64, 65), (128, 129), (192, 193), (900, 950)] y := (by decide +kernel); exact hm2 x (by omega) hx hm), ⟨by omega, by omega⟩, wI_nr (by skip; exact (nrc nrI (nrc (nrR (by omega)) (nrc (nrR (by omega)) (nrc (nrR (by omega)) (nrc (nrR (by omega)) (nrc (nrR (by omega)) (nrc (nrR (by omega)) (nrc (nrR (by omega)) (nrc (nrR (by omega)) (nrc (nrR (by omega)) (nrc nrN (nrc nrN (nrc nrI (nrc nrI (nrc nrI (nrc nrI (nrc nrI (nrc nrI (nrc nrN (nrc nrN (nrc nrI (nrc nrN (nrc nrN (nrc nrN nr0))))))))))))))))))))))))) (fun n hn hm => by unfold men at hm; rw [show n = 705 from by omega] at hn; exact absurd hn (by decide))⟩) (okl_c (ok_r (by omega)) okl_0) (oks_c (ok_r (by omega)) oks_0) ⟨by decide, by decide⟩ ?_
  rw [wI_upm (by decide) (by decide) (wX_tornBy XBl) (fun x hx => by obtain ⟨d, rfl⟩ : ∃ d, x = 448 + d := ⟨x - 448, by omega⟩; rw [Nat.add_sub_cancel_left]; exact wX_trow XBl (by omega))]
  refine V_putF (i := 10) k_X0 dX0_init_104 (by decide) q237 rfl rfl rfl wI_0 (Nat.le_of_ble_eq_true rfl) (fun _ => rfl) (fun _ => rfl) ?_
  rw [wI_fs]
  show V l _ _ _ _ _ (wI [(705, 705 + 1), (448, 448 + 24), (704, 704 + 1), (384, 384 + 24), (322, 323), (321, 322), (320, 321), (196, 197), (195, 196), (194, 195), (65, 66), (129, 130), (193, 194), (64, 65), (128, 129), (192, 193), (900, 950)] [.int 0, .ref 64, .ref 65, .ref 194, .ref 195, .ref 196, .ref 320, .ref 321, .ref 322, .ref 704, .ref 705, .null, .int 0, .int 0, .int 0, .int 0, .int 0, .int 0, .null, .null, .int 0, .null, .null, .null]) _ _
  refine V_aload_n dX0_init_107 rfl ?_
  refine V_bipush dX0_init_108 lb_24 ?_
  refine V_bipush dX0_init_110 lb_10 ?_
  refine V_multi (k' := 27) (n' := 293) (N := 24) (K := 10) 706 512 (fun d => cutI 10 (fun i => XBl 32 (12 * d + i))) (fun d j hj => by show cutI 10 _ j = _; rw [cutI_at hj, XBl_0 (by decide)]) dX0_init_112 q211 q226 (by decide +kernel) (by decide +kernel) (by decide +kernel) (by decide +kernel) (by decide) (by decide) (by decide) (fun x hx => ⟨wI_no (by omega) (fun hm => by have hm2 : ∀ y < 1000, (y = 706 ∨ (512 ≤ y ∧ y < 536)) → ¬ mdP [(705, 705 + 1), (448, 448 + 24), (704, 704 + 1), (384, 384 + 24), (322, 323), (321, 322), (320, 321), (196, 197), (195, 196), (194, 195), (65, 66), (129, 130), (193, 194), (64, 65), (128, 129), (192, 193), (900, 950)] y := (by decide +kernel); exact hm2 x (by omega) hx hm), ⟨by omega, by omega⟩, wI_nr (by skip; exact (nrc nrI (nrc (nrR (by omega)) (nrc (nrR (by omega)) (nrc (nrR (by omega)) (nrc (nrR (by omega)) (nrc (nrR (by omega)) (nrc (nrR (by omega)) (nrc (nrR (by omega)) (nrc (nrR (by omega)) (nrc (nrR (by omega)) (nrc (nrR (by omega)) (nrc nrN (nrc nrI (nrc nrI (nrc nrI (nrc nrI (nrc nrI (nrc nrI (nrc nrN (nrc nrN (nrc nrI (nrc nrN (nrc nrN (nrc nrN nr0))))))))))))))))))))))))) (fun n hn hm => by unfold men at hm; rw [show n = 706 from by omega] at hn; exact absurd hn (by decide))⟩) (okl_c (ok_r (by omega)) okl_0) (oks_c (ok_r (by omega)) oks_0) ⟨by decide, by decide⟩ ?_
  rw [wI_upm (by decide) (by decide) (wX_statesBy XBl) (fun x hx => by obtain ⟨d, rfl⟩ : ∃ d, x = 512 + d := ⟨x - 512, by omega⟩; rw [Nat.add_sub_cancel_left]; exact wX_srow XBl (by omega))]
  refine V_putF (i := 11) k_X0 dX0_init_116 (by decide) q238 rfl rfl rfl wI_0 (Nat.le_of_ble_eq_true rfl) (fun _ => rfl) (fun _ => rfl) ?_
  rw [wI_fs]
  show V l _ _ _ _ _ (wI [(706, 706 + 1), (512, 512 + 24), (705, 705 + 1), (448, 448 + 24), (704, 704 + 1), (384, 384 + 24), (322, 323), (321, 322), (320, 321), (196, 197), (195, 196), (194, 195), (65, 66), (129, 130), (193, 194), (64, 65), (128, 129), (192, 193), (900, 950)] [.int 0, .ref 64, .ref 65, .ref 194, .ref 195, .ref 196, .ref 320, .ref 321, .ref 322, .ref 704, .ref 705, .ref 706, .int 0, .int 0, .int 0, .int 0, .int 0, .int 0, .null, .null, .int 0, .null, .null, .null]) _ _
  refine V_aload_n dX0_init_119 rfl ?_
  refine V_iconst dX0_init_120 li_m1 ?_
  refine V_putf (i := 14) k_X0 dX0_init_121 (by decide) q241 rfl wI_0 (Nat.le_of_ble_eq_true rfl) (fun _ => rfl) (fun _ => rfl) ?_
  rw [wI_fs]
  show V l _ _ _ _ _ (wI [(706, 706 + 1), (512, 512 + 24), (705, 705 + 1), (448, 448 + 24), (704, 704 + 1), (384, 384 + 24), (322, 323), (321, 322), (320, 321), (196, 197), (195, 196), (194, 195), (65, 66), (129, 130), (193, 194), (64, 65), (128, 129), (192, 193), (900, 950)] [.int 0, .ref 64, .ref 65, .ref 194, .ref 195, .ref 196, .ref 320, .ref 321, .ref 322, .ref 704, .ref 705, .ref 706, .int 0, .int 0, .int (-1), .int 0, .int 0, .int 0, .null, .null, .int 0, .null, .null, .null]) _ _
  refine V_aload_n dX0_init_124 rfl ?_
  refine V_iconst dX0_init_125 li_m1 ?_
  refine V_putf (i := 16) k_X0 dX0_init_126 (by decide) q243 rfl wI_0 (Nat.le_of_ble_eq_true rfl) (fun _ => rfl) (fun _ => rfl) ?_
  rw [wI_fs]
  show V l _ _ _ _ _ (wI [(706, 706 + 1), (512, 512 + 24), (705, 705 + 1), (448, 448 + 24), (704, 704 + 1), (384, 384 + 24), (322, 323), (321, 322), (320, 321), (196, 197), (195, 196), (194, 195), (65, 66), (129, 130), (193, 194), (64, 65), (128, 129), (192, 193), (900, 950)] [.int 0, .ref 64, .ref 65, .ref 194, .ref 195, .ref 196, .ref 320, .ref 321, .ref 322, .ref 704, .ref 705, .ref 706, .int 0, .int 0, .int (-1), .int 0, .int (-1), .int 0, .null, .null, .int 0, .null, .null, .null]) _ _
  refine V_aload_n dX0_init_129 rfl ?_
  refine V_new (k' := 26) (n' := 290) (fs := [.int 0, .null, .int 0]) 197 k_J2 dX0_init_130 q209 q143 q100 (by decide +kernel) (wI_no (by decide) (by decide)) ⟨by decide, by decide⟩ (wI_nr (nrc nrI (nrc (nrR (by decide)) (nrc (nrR (by decide)) (nrc (nrR (by decide)) (nrc (nrR (by decide)) (nrc (nrR (by decide)) (nrc (nrR (by decide)) (nrc (nrR (by decide)) (nrc (nrR (by decide)) (nrc (nrR (by decide)) (nrc (nrR (by decide)) (nrc (nrR (by decide)) (nrc nrI (nrc nrI (nrc nrI (nrc nrI (nrc nrI (nrc nrI (nrc nrN (nrc nrN (nrc nrI (nrc nrN (nrc nrN (nrc nrN nr0)))))))))))))))))))))))) (fun n hn hm => by unfold men at hm; omega)) (nel_c (ne_r (by decide)) nel_0) (nes_c (ne_r (by decide)) nes_0) ⟨by decide, by decide⟩ ?_
  refine V_dup dX0_init_133 rfl ?_
  refine Vr_i (k' := 26) (n' := 290) (j_init l upw_self) dX0_init_134 q146 q100 q210 q145 rfl hs_J2_init (by decide) rfl (Nat.le_of_ble_eq_true rfl) (fun _ h => h.elim) (fun _ _ => xok0) (fun _ _ => xok0) ⟨by decide, by decide⟩ ?_
  rw [upw_upw, wI_new (by decide) (bl_li (q := 5) (by decide))]
  refine V_putF (i := 18) k_X0 dX0_init_137 (by decide) q245 rfl rfl rfl wI_0 (Nat.le_of_ble_eq_true rfl) (fun _ => rfl) (fun _ => rfl) ?_
  rw [wI_fs]
  show V l _ _ _ _ _ (wI [(197, 198), (706, 706 + 1), (512, 512 + 24), (705, 705 + 1), (448, 448 + 24), (704, 704 + 1), (384, 384 + 24), (322, 323), (321, 322), (320, 321), (196, 197), (195, 196), (194, 195), (65, 66), (129, 130), (193, 194), (64, 65), (128, 129), (192, 193), (900, 950)] [.int 0, .ref 64, .ref 65, .ref 194, .ref 195, .ref 196, .ref 320, .ref 321, .ref 322, .ref 704, .ref 705, .ref 706, .int 0, .int 0, .int (-1), .int 0, .int (-1), .int 0, .ref 197, .null, .int 0, .null, .null, .null]) _ _
  refine V_aload_n dX0_init_140 rfl ?_
  refine V_bipush dX0_init_141 lb_10 ?_
  refine V_bipush dX0_init_143 lb_24 ?_
  refine V_multi (k' := 15) (n' := 40) (N := 10) (K := 24) 707 576 (fun d => cutI 24 (fun i => XBl 38 (24 * d + i))) (fun d j hj => by show cutI 24 _ j = _; rw [cutI_at hj, XBl_0 (by decide)]) dX0_init_145 q211 q226 (by decide +kernel) (by decide +kernel) (by decide +kernel) (by decide +kernel) (by decide) (by decide) (by decide) (fun x hx => ⟨wI_no (by omega) (fun hm => by have hm2 : ∀ y < 1000, (y = 707 ∨ (576 ≤ y ∧ y < 586)) → ¬ mdP [(197, 198), (706, 706 + 1), (512, 512 + 24), (705, 705 + 1), (448, 448 + 24), (704, 704 + 1), (384, 384 + 24), (322, 323), (321, 322), (320, 321), (196, 197), (195, 196), (194, 195), (65, 66), (129, 130), (193, 194), (64, 65), (128, 129), (192, 193), (900, 950)] y := (by decide +kernel); exact hm2 x (by omega) hx hm), ⟨by omega, by omega⟩, wI_nr (by skip; exact (nrc nrI (nrc (nrR (by omega)) (nrc (nrR (by omega)) (nrc (nrR (by omega)) (nrc (nrR (by omega)) (nrc (nrR (by omega)) (nrc (nrR (by omega)) (nrc (nrR (by omega)) (nrc (nrR (by omega)) (nrc (nrR (by omega)) (nrc (nrR (by omega)) (nrc (nrR (by omega)) (nrc nrI (nrc nrI (nrc nrI (nrc nrI (nrc nrI (nrc nrI (nrc (nrR (by omega)) (nrc nrN (nrc nrI (nrc nrN (nrc nrN (nrc nrN nr0))))))))))))))))))))))))) (fun n hn hm => by unfold men at hm; rw [show n = 707 from by omega] at hn; exact absurd hn (by decide))⟩) (okl_c (ok_r (by omega)) okl_0) (oks_c (ok_r (by omega)) oks_0) ⟨by decide, by decide⟩ ?_
  rw [wI_upm (by decide) (by decide) (wX_hads XBl) (fun x hx => by obtain ⟨d, rfl⟩ : ∃ d, x = 576 + d := ⟨x - 576, by omega⟩; rw [Nat.add_sub_cancel_left]; exact wX_had XBl (by omega))]
  refine V_putF (i := 19) k_X0 dX0_init_149 (by decide) q246 rfl rfl rfl wI_0 (Nat.le_of_ble_eq_true rfl) (fun _ => rfl) (fun _ => rfl) ?_
  rw [wI_fs]
  show V l _ _ _ _ _ (wI [(707, 707 + 1), (576, 576 + 10), (197, 198), (706, 706 + 1), (512, 512 + 24), (705, 705 + 1), (448, 448 + 24), (704, 704 + 1), (384, 384 + 24), (322, 323), (321, 322), (320, 321), (196, 197), (195, 196), (194, 195), (65, 66), (129, 130), (193, 194), (64, 65), (128, 129), (192, 193), (900, 950)] [.int 0, .ref 64, .ref 65, .ref 194, .ref 195, .ref 196, .ref 320, .ref 321, .ref 322, .ref 704, .ref 705, .ref 706, .int 0, .int 0, .int (-1), .int 0, .int (-1), .int 0, .ref 197, .ref 707, .int 0, .null, .null, .null]) _ _
  refine V_aload_n dX0_init_152 rfl ?_
  refine V_bipush dX0_init_153 lb_8 ?_
  refine V_anewA (k' := 14) (n' := 32) (N := 8) (f := cutV 8 (asV XBl)) 708 dX0_init_155 q213 (by decide +kernel) (by decide +kernel) (by decide) (fun j hj => by rw [cutV_at hj]; unfold asV; rw [if_pos (XBl_0 (by decide))]) (wI_no (by decide) (by decide)) ⟨by decide, by decide⟩ (wI_nr (nrc nrI (nrc (nrR (by decide)) (nrc (nrR (by decide)) (nrc (nrR (by decide)) (nrc (nrR (by decide)) (nrc (nrR (by decide)) (nrc (nrR (by decide)) (nrc (nrR (by decide)) (nrc (nrR (by decide)) (nrc (nrR (by decide)) (nrc (nrR (by decide)) (nrc (nrR (by decide)) (nrc nrI (nrc nrI (nrc nrI (nrc nrI (nrc nrI (nrc nrI (nrc (nrR (by decide)) (nrc (nrR (by decide)) (nrc nrI (nrc nrN (nrc nrN (nrc nrN nr0)))))))))))))))))))))))) (fun n hn hm => by unfold men at hm; omega)) (nel_c (ne_r (by decide)) nel_0) (nes_c (ne_r (by decide)) nes_0) ⟨by decide, by decide⟩ ?_
  rw [wI_new (by decide) (wX_aside XBl)]
  refine V_putF (i := 21) k_X0 dX0_init_158 (by decide) q248 rfl rfl rfl wI_0 (Nat.le_of_ble_eq_true rfl) (fun _ => rfl) (fun _ => rfl) ?_
  rw [wI_fs]
  show V l _ _ _ _ _ (wI [(708, 709), (707, 707 + 1), (576, 576 + 10), (197, 198), (706, 706 + 1), (512, 512 + 24), (705, 705 + 1), (448, 448 + 24), (704, 704 + 1), (384, 384 + 24), (322, 323), (321, 322), (320, 321), (196, 197), (195, 196), (194, 195), (65, 66), (129, 130), (193, 194), (64, 65), (128, 129), (192, 193), (900, 950)] [.int 0, .ref 64, .ref 65, .ref 194, .ref 195, .ref 196, .ref 320, .ref 321, .ref 322, .ref 704, .ref 705, .ref 706, .int 0, .int 0, .int (-1), .int 0, .int (-1), .int 0, .ref 197, .ref 707, .int 0, .ref 708, .null, .null]) _ _
  refine V_aload_n dX0_init_161 rfl ?_
  refine V_bipush dX0_init_162 lb_8 ?_
  refine V_iconst dX0_init_164 li_2 ?_
  refine V_multi (k' := 5) (n' := 8) (N := 8) (K := 2) 709 640 (fun d => cutI 2 (fun i => XBl 51 (2 * d + i))) (fun d j hj => by show cutI 2 _ j = _; rw [cutI_at hj, XBl_0 (by decide)]) dX0_init_165 q211 q226 (by decide +kernel) (by decide +kernel) (by decide +kernel) (by decide +kernel) (by decide) (by decide) (by decide) (fun x hx => ⟨wI_no (by omega) (fun hm => by have hm2 : ∀ y < 1000, (y = 709 ∨ (640 ≤ y ∧ y < 648)) → ¬ mdP [(708, 709), (707, 707 + 1), (576, 576 + 10), (197, 198), (706, 706 + 1), (512, 512 + 24), (705, 705 + 1), (448, 448 + 24), (704, 704 + 1), (384, 384 + 24), (322, 323), (321, 322), (320, 321), (196, 197), (195, 196), (194, 195), (65, 66), (129, 130), (193, 194), (64, 65), (128, 129), (192, 193), (900, 950)] y := (by decide +kernel); exact hm2 x (by omega) hx hm), ⟨by omega, by omega⟩, wI_nr (by skip; exact (nrc nrI (nrc (nrR (by omega)) (nrc (nrR (by omega)) (nrc (nrR (by omega)) (nrc (nrR (by omega)) (nrc (nrR (by omega)) (nrc (nrR (by omega)) (nrc (nrR (by omega)) (nrc (nrR (by omega)) (nrc (nrR (by omega)) (nrc (nrR (by omega)) (nrc (nrR (by omega)) (nrc nrI (nrc nrI (nrc nrI (nrc nrI (nrc nrI (nrc nrI (nrc (nrR (by omega)) (nrc (nrR (by omega)) (nrc nrI (nrc (nrR (by omega)) (nrc nrN (nrc nrN nr0))))))))))))))))))))))))) (fun n hn hm => by unfold men at hm; rw [show n = 709 from by omega] at hn; exact absurd hn (by decide))⟩) (okl_c (ok_r (by omega)) okl_0) (oks_c (ok_r (by omega)) oks_0) ⟨by decide, by decide⟩ ?_
  rw [wI_upm (by decide) (by decide) (wX_spares XBl) (fun x hx => by obtain ⟨d, rfl⟩ : ∃ d, x = 640 + d := ⟨x - 640, by omega⟩; rw [Nat.add_sub_cancel_left]; exact wX_spare XBl (by omega))]
  refine V_putF (i := 22) k_X0 dX0_init_169 (by decide) q249 rfl rfl rfl wI_0 (Nat.le_of_ble_eq_true rfl) (fun _ => rfl) (fun _ => rfl) ?_
  rw [wI_fs]
  show V l _ _ _ _ _ (wI [(709, 709 + 1), (640, 640 + 8), (708, 709), (707, 707 + 1), (576, 576 + 10), (197, 198), (706, 706 + 1), (512, 512 + 24), (705, 705 + 1), (448, 448 + 24), (704, 704 + 1), (384, 384 + 24), (322, 323), (321, 322), (320, 321), (196, 197), (195, 196), (194, 195), (65, 66), (129, 130), (193, 194), (64, 65), (128, 129), (192, 193), (900, 950)] [.int 0, .ref 64, .ref 65, .ref 194, .ref 195, .ref 196, .ref 320, .ref 321, .ref 322, .ref 704, .ref 705, .ref 706, .int 0, .int 0, .int (-1), .int 0, .int (-1), .int 0, .ref 197, .ref 707, .int 0, .ref 708, .ref 709, .null]) _ _
  refine V_aload_n dX0_init_172 rfl ?_
  refine V_iconst dX0_init_173 li_4 ?_
  refine V_anew (C := "PromiseTailor$Sheet") (k' := 4) (n' := 4) (N := 4) 710 dX0_init_174 q214 AO_sheet (by decide +kernel) (by decide +kernel) (by decide) (wI_no (by decide) (by decide)) ⟨by decide, by decide⟩ (wI_nr (nrc nrI (nrc (nrR (by decide)) (nrc (nrR (by decide)) (nrc (nrR (by decide)) (nrc (nrR (by decide)) (nrc (nrR (by decide)) (nrc (nrR (by decide)) (nrc (nrR (by decide)) (nrc (nrR (by decide)) (nrc (nrR (by decide)) (nrc (nrR (by decide)) (nrc (nrR (by decide)) (nrc nrI (nrc nrI (nrc nrI (nrc nrI (nrc nrI (nrc nrI (nrc (nrR (by decide)) (nrc (nrR (by decide)) (nrc nrI (nrc (nrR (by decide)) (nrc (nrR (by decide)) (nrc nrN nr0)))))))))))))))))))))))) (fun n hn hm => by unfold men at hm; omega)) (nel_c (ne_r (by decide)) nel_0) (nes_c (ne_r (by decide)) nes_0) ⟨by decide, by decide⟩ ?_
  rw [xsh_0]
  refine V_dup dX0_init_177 rfl ?_
  refine V_iconst dX0_init_178 li_0 ?_
  refine V_new (k' := 3) (n' := 3) (fs := [.null]) 768 k_X4 dX0_init_179 q214 q216 q102 (by decide +kernel) (by rw [upw_ne (by decide)]; exact wI_no (by decide) (by decide)) ⟨by decide, by decide⟩ (upw_nr (xshN _ (by decide)) (wI_nr (nrc nrI (nrc (nrR (by decide)) (nrc (nrR (by decide)) (nrc (nrR (by decide)) (nrc (nrR (by decide)) (nrc (nrR (by decide)) (nrc (nrR (by decide)) (nrc (nrR (by decide)) (nrc (nrR (by decide)) (nrc (nrR (by decide)) (nrc (nrR (by decide)) (nrc (nrR (by decide)) (nrc nrI (nrc nrI (nrc nrI (nrc nrI (nrc nrI (nrc nrI (nrc (nrR (by decide)) (nrc (nrR (by decide)) (nrc nrI (nrc (nrR (by decide)) (nrc (nrR (by decide)) (nrc nrN nr0)))))))))))))))))))))))) (fun n hn hm => by unfold men at hm; rw [show n = 710 from by omega] at hn; exact absurd hn (by decide)))) (nel_c (ne_r (by decide)) nel_0) (nes_c ne_i (nes_c (ne_r (by decide)) (nes_c (ne_r (by decide)) (nes_c (ne_r (by decide)) nes_0)))) ⟨by decide, by decide⟩ ?_
  refine V_dup dX0_init_182 rfl ?_
  refine Vr_in (k' := 3) (n' := 3) (x_initX4 l) dX0_init_183 q219 q102 (nw q217 rfl) q218 rfl hs_X4_init (by decide) rfl (Nat.le_of_ble_eq_true rfl) (fun _ h => h.elim) (fun _ _ => xok0) (fun _ _ => xok0) ⟨by decide, by decide⟩ ?_
  rw [upw_comm (a := 710) (b := 768) (by decide), wI_new (a := 768) (by decide) (bl_sh (s := 0) (by decide))]
  refine V_shst dX0_init_186 (k := 0) (by decide) (by rw [upw_ne (by decide)]; exact (wI_at (by decide) (by decide)).trans (bl_sh (s := 0) (by decide))) ?_
  refine V_dup dX0_init_187 rfl ?_
  refine V_iconst dX0_init_188 li_1 ?_
  refine V_new (k' := 2) (n' := 2) (fs := [.null]) 769 k_X4 dX0_init_189 q214 q216 q102 (by decide +kernel) (by rw [upw_ne (by decide)]; exact wI_no (by decide) (by decide)) ⟨by decide, by decide⟩ (upw_nr (xshN _ (by decide)) (wI_nr (nrc nrI (nrc (nrR (by decide)) (nrc (nrR (by decide)) (nrc (nrR (by decide)) (nrc (nrR (by decide)) (nrc (nrR (by decide)) (nrc (nrR (by decide)) (nrc (nrR (by decide)) (nrc (nrR (by decide)) (nrc (nrR (by decide)) (nrc (nrR (by decide)) (nrc (nrR (by decide)) (nrc nrI (nrc nrI (nrc nrI (nrc nrI (nrc nrI (nrc nrI (nrc (nrR (by decide)) (nrc (nrR (by decide)) (nrc nrI (nrc (nrR (by decide)) (nrc (nrR (by decide)) (nrc nrN nr0)))))))))))))))))))))))) (fun n hn hm => by unfold men at hm; rw [show n = 710 from by omega] at hn; exact absurd hn (by decide)))) (nel_c (ne_r (by decide)) nel_0) (nes_c ne_i (nes_c (ne_r (by decide)) (nes_c (ne_r (by decide)) (nes_c (ne_r (by decide)) nes_0)))) ⟨by decide, by decide⟩ ?_
  refine V_dup dX0_init_192 rfl ?_
  refine Vr_in (k' := 2) (n' := 2) (x_initX4 l) dX0_init_193 q219 q102 (nw q217 rfl) q218 rfl hs_X4_init (by decide) rfl (Nat.le_of_ble_eq_true rfl) (fun _ h => h.elim) (fun _ _ => xok0) (fun _ _ => xok0) ⟨by decide, by decide⟩ ?_
  rw [upw_comm (a := 710) (b := 769) (by decide), wI_new (a := 769) (by decide) (bl_sh (s := 1) (by decide))]
  refine V_shst dX0_init_196 (k := 1) (by decide) (by rw [upw_ne (by decide)]; exact (wI_at (by decide) (by decide)).trans (bl_sh (s := 1) (by decide))) ?_
  refine V_dup dX0_init_197 rfl ?_
  refine V_iconst dX0_init_198 li_2 ?_
  refine V_new (k' := 1) (n' := 1) (fs := [.null]) 770 k_X4 dX0_init_199 q214 q216 q102 (by decide +kernel) (by rw [upw_ne (by decide)]; exact wI_no (by decide) (by decide)) ⟨by decide, by decide⟩ (upw_nr (xshN _ (by decide)) (wI_nr (nrc nrI (nrc (nrR (by decide)) (nrc (nrR (by decide)) (nrc (nrR (by decide)) (nrc (nrR (by decide)) (nrc (nrR (by decide)) (nrc (nrR (by decide)) (nrc (nrR (by decide)) (nrc (nrR (by decide)) (nrc (nrR (by decide)) (nrc (nrR (by decide)) (nrc (nrR (by decide)) (nrc nrI (nrc nrI (nrc nrI (nrc nrI (nrc nrI (nrc nrI (nrc (nrR (by decide)) (nrc (nrR (by decide)) (nrc nrI (nrc (nrR (by decide)) (nrc (nrR (by decide)) (nrc nrN nr0)))))))))))))))))))))))) (fun n hn hm => by unfold men at hm; rw [show n = 710 from by omega] at hn; exact absurd hn (by decide)))) (nel_c (ne_r (by decide)) nel_0) (nes_c ne_i (nes_c (ne_r (by decide)) (nes_c (ne_r (by decide)) (nes_c (ne_r (by decide)) nes_0)))) ⟨by decide, by decide⟩ ?_
  refine V_dup dX0_init_202 rfl ?_
  refine Vr_in (k' := 1) (n' := 1) (x_initX4 l) dX0_init_203 q219 q102 (nw q217 rfl) q218 rfl hs_X4_init (by decide) rfl (Nat.le_of_ble_eq_true rfl) (fun _ h => h.elim) (fun _ _ => xok0) (fun _ _ => xok0) ⟨by decide, by decide⟩ ?_
  rw [upw_comm (a := 710) (b := 770) (by decide), wI_new (a := 770) (by decide) (bl_sh (s := 2) (by decide))]
  refine V_shst dX0_init_206 (k := 2) (by decide) (by rw [upw_ne (by decide)]; exact (wI_at (by decide) (by decide)).trans (bl_sh (s := 2) (by decide))) ?_
  refine V_dup dX0_init_207 rfl ?_
  refine V_iconst dX0_init_208 li_3 ?_
  refine V_new (k' := 0) (n' := 0) (fs := [.null]) 771 k_X4 dX0_init_209 q214 q216 q102 (by decide +kernel) (by rw [upw_ne (by decide)]; exact wI_no (by decide) (by decide)) ⟨by decide, by decide⟩ (upw_nr (xshN _ (by decide)) (wI_nr (nrc nrI (nrc (nrR (by decide)) (nrc (nrR (by decide)) (nrc (nrR (by decide)) (nrc (nrR (by decide)) (nrc (nrR (by decide)) (nrc (nrR (by decide)) (nrc (nrR (by decide)) (nrc (nrR (by decide)) (nrc (nrR (by decide)) (nrc (nrR (by decide)) (nrc (nrR (by decide)) (nrc nrI (nrc nrI (nrc nrI (nrc nrI (nrc nrI (nrc nrI (nrc (nrR (by decide)) (nrc (nrR (by decide)) (nrc nrI (nrc (nrR (by decide)) (nrc (nrR (by decide)) (nrc nrN nr0)))))))))))))))))))))))) (fun n hn hm => by unfold men at hm; rw [show n = 710 from by omega] at hn; exact absurd hn (by decide)))) (nel_c (ne_r (by decide)) nel_0) (nes_c ne_i (nes_c (ne_r (by decide)) (nes_c (ne_r (by decide)) (nes_c (ne_r (by decide)) nes_0)))) ⟨by decide, by decide⟩ ?_
  refine V_dup dX0_init_212 rfl ?_
  refine Vr_in (k' := 0) (n' := 0) (x_initX4 l) dX0_init_213 q219 q102 (nw q217 rfl) q218 rfl hs_X4_init (by decide) rfl (Nat.le_of_ble_eq_true rfl) (fun _ h => h.elim) (fun _ _ => xok0) (fun _ _ => xok0) ⟨by decide, by decide⟩ ?_
  rw [upw_comm (a := 710) (b := 771) (by decide), wI_new (a := 771) (by decide) (bl_sh (s := 3) (by decide))]
  refine V_shst dX0_init_216 (k := 3) (by decide) (by rw [upw_ne (by decide)]; exact (wI_at (by decide) (by decide)).trans (bl_sh (s := 3) (by decide))) ?_
  refine V_putF (i := 23) k_X0 dX0_init_217 (by decide) q250 rfl rfl rfl (by rw [upw_ne (by decide)]; exact wI_0) (Nat.le_of_ble_eq_true rfl) (fun _ => rfl) (fun _ => rfl) ?_
  rw [upw_comm (a := 710) (b := 0) (by decide), wI_fs]
  show V l _ _ _ _ _ (upw (wI [(771, 772), (770, 771), (769, 770), (768, 769), (709, 709 + 1), (640, 640 + 8), (708, 709), (707, 707 + 1), (576, 576 + 10), (197, 198), (706, 706 + 1), (512, 512 + 24), (705, 705 + 1), (448, 448 + 24), (704, 704 + 1), (384, 384 + 24), (322, 323), (321, 322), (320, 321), (196, 197), (195, 196), (194, 195), (65, 66), (129, 130), (193, 194), (64, 65), (128, 129), (192, 193), (900, 950)] [.int 0, .ref 64, .ref 65, .ref 194, .ref 195, .ref 196, .ref 320, .ref 321, .ref 322, .ref 704, .ref 705, .ref 706, .int 0, .int 0, .int (-1), .int 0, .int (-1), .int 0, .ref 197, .ref 707, .int 0, .ref 708, .ref 709, .ref 710]) 710 (xsh 4)) _ _
  refine V_cut (g := fun i => .ref (768 + i)) upw_self (fun j hj => if_pos hj) ?_
  rw [upw_upw, wI_new (by decide) (wX_sheets XBl)]
  refine V_sub (w' := wX XBl) wI_all ?_
  exact V_vreturn dX0_init_220 rfl hQ
