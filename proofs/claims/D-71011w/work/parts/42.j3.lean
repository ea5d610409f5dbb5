/-! lists: clear, remove the last, made; and all of them in PromiseTailor's world -/
set_option maxRecDepth 100000
def nul (i : Nat) (f : Nat → Value) : Nat → Value := fun t => if t < i then .null else f t
theorem nul_0 (f : Nat → Value) : nul 0 f = f := by
  funext t
  exact if_neg (Nat.not_lt_zero t)
theorem nul_s (i : Nat) (f : Nat → Value) : xup (nul i f) i .null = nul (i + 1) f := by
  funext t
  unfold xup nul
  by_cases e : t = i
  · rw [if_pos e, if_pos (by omega)]
  · rw [if_neg e]
    by_cases g : t < i
    · rw [if_pos g, if_pos (by omega)]
    · rw [if_neg g, if_neg (by omega)]
set_option maxHeartbeats 4000000 in
theorem j_clear0 (l : Launch) {w : xW} {b e : Nat} {md : Int32} (hb : w b = some (liC md e (nI 0))) : Cr l yJ2_clear cJ2_clear 4 none 0 0 0 xF0 [.ref b] w none (upw w b (liC (md + nI 1) e (nI 0))) := by
  refine Cr_start (ls := [some (.ref b), none, none, none]) (by decide) rfl (Nat.le_of_ble_eq_true rfl) (fun _ _ _ h => h) ?_
  intro Q hQ
  refine V_aload_n dJ2_clear_0 rfl ?_
  refine V_dup dJ2_clear_1 rfl ?_
  refine V_getfU (i := 0) k_J2 dJ2_clear_2 (by decide) q159 q160 hb rfl ?_
  refine V_iconst dJ2_clear_5 li_1 ?_
  refine V_iadd dJ2_clear_6 ?_
  refine V_putfU (i := 0) k_J2 dJ2_clear_7 (by decide) q159 q160 rfl hb (Nat.le_of_ble_eq_true rfl) (fun _ => rfl) (fun _ => rfl) ?_
  refine V_aload_n dJ2_clear_10 rfl ?_
  refine V_getf (i := 1) k_J2 dJ2_clear_11 (by decide) q156 upw_self rfl ?_
  refine V_astore_n dJ2_clear_14 rfl (Nat.le_of_ble_eq_true rfl) (Nat.le_of_ble_eq_true rfl) ?_
  refine V_aload_n dJ2_clear_15 rfl ?_
  refine V_getf (i := 2) k_J2 dJ2_clear_16 (by decide) q157 upw_self rfl ?_
  refine V_istore_n dJ2_clear_19 rfl (Nat.le_of_ble_eq_true rfl) (Nat.le_of_ble_eq_true rfl) ?_
  refine V_aload_n dJ2_clear_20 rfl ?_
  refine V_iconst dJ2_clear_21 li_0 ?_
  refine V_dup_x1 dJ2_clear_22 rfl rfl ?_
  refine V_putf (i := 2) k_J2 dJ2_clear_23 (by decide) q157 rfl upw_self (Nat.le_of_ble_eq_true rfl) (fun _ => rfl) (fun _ => rfl) ?_
  refine V_istore_n dJ2_clear_26 rfl (Nat.le_of_ble_eq_true rfl) (Nat.le_of_ble_eq_true rfl) ?_
  refine V_iload_n dJ2_clear_27 rfl ?_
  refine V_iload_n dJ2_clear_28 rfl ?_
  refine V_icmp_ge (tgt := 42) dJ2_clear_29 (by decide) (fun _ => ?_) (fun c29 => absurd (nI_le (Nat.le_refl 0) (by decide)) c29)
  rw [upw_upw]
  exact V_vreturn dJ2_clear_42 rfl hQ
set_option maxHeartbeats 4000000 in
theorem j_clearN (l : Launch) {w : xW} {b e sz : Nat} {md : Int32} {f : Nat → Value} (hb : w b = some (liC md e (nI sz))) (he : w e = some (daC f)) (heb : e ≠ b) (hs : sz ≤ 10) : Cr l yJ2_clear cJ2_clear 4 none 0 0 0 xF0 [.ref b] w none (upw (upw w e (daC (nul sz f))) b (liC (md + nI 1) e (nI 0))) := by
  refine Cr_start (ls := [some (.ref b), none, none, none]) (by decide) rfl (Nat.le_of_ble_eq_true rfl) (fun _ _ _ h => h) ?_
  intro Q hQ
  have L : ∀ (j i : Nat) (hj : i + j = sz), V l (yJ2_clear.cls, cJ2_clear, 4, none, [], yJ2_clear.name) (rmD 0 0 0, xF0, Q, xX0) 27 [some (.ref b), some (.ref e), some (.int (nI sz)), some (.int (nI i))] [] (upw (upw w b (liC (md + nI 1) e (nI 0))) e (daC (nul i f))) 0 0 := by
    intro j
    induction j with
    | zero =>
      intro i hj
      refine V_iload_n dJ2_clear_27 rfl ?_
      refine V_iload_n dJ2_clear_28 rfl ?_
      refine V_icmp_ge (tgt := 42) dJ2_clear_29 (by decide) (fun _ => ?_) (fun c29 => absurd (nI_le (by omega) (by omega)) c29)
      exact V_vreturn dJ2_clear_42 rfl (by rw [show i = sz from by omega, upw_comm (Ne.symm heb)]; exact hQ)
    | succ j ih =>
      intro i hj
      refine V_iload_n dJ2_clear_27 rfl ?_
      refine V_iload_n dJ2_clear_28 rfl ?_
      refine V_icmp_ge (tgt := 42) dJ2_clear_29 (by decide) (fun c29 => absurd c29 (nI_ge (by omega) (by omega))) (fun _ => ?_)
      refine V_aload_n dJ2_clear_32 rfl ?_
      refine V_iload_n dJ2_clear_33 rfl ?_
      refine V_null dJ2_clear_34 ?_
      refine V_aastN dJ2_clear_35 (N := 10) upw_self (vp_in_nI (show i < 10 by omega) (by decide)) ?_
      rw [nI_clamp (by omega), nul_s, upw_upw]
      refine V_iinc dJ2_clear_36 rfl (iinc_1 _) rfl (Nat.le_of_ble_eq_true rfl) ?_
      refine V_goto (tgt := 27) dJ2_clear_39 (by decide) ?_
      exact ih (i + 1) (by omega)
  refine V_aload_n dJ2_clear_0 rfl ?_
  refine V_dup dJ2_clear_1 rfl ?_
  refine V_getfU (i := 0) k_J2 dJ2_clear_2 (by decide) q159 q160 hb rfl ?_
  refine V_iconst dJ2_clear_5 li_1 ?_
  refine V_iadd dJ2_clear_6 ?_
  refine V_putfU (i := 0) k_J2 dJ2_clear_7 (by decide) q159 q160 rfl hb (Nat.le_of_ble_eq_true rfl) (fun _ => rfl) (fun _ => rfl) ?_
  refine V_aload_n dJ2_clear_10 rfl ?_
  refine V_getf (i := 1) k_J2 dJ2_clear_11 (by decide) q156 upw_self rfl ?_
  refine V_astore_n dJ2_clear_14 rfl (Nat.le_of_ble_eq_true rfl) (Nat.le_of_ble_eq_true rfl) ?_
  refine V_aload_n dJ2_clear_15 rfl ?_
  refine V_getf (i := 2) k_J2 dJ2_clear_16 (by decide) q157 upw_self rfl ?_
  refine V_istore_n dJ2_clear_19 rfl (Nat.le_of_ble_eq_true rfl) (Nat.le_of_ble_eq_true rfl) ?_
  refine V_aload_n dJ2_clear_20 rfl ?_
  refine V_iconst dJ2_clear_21 li_0 ?_
  refine V_dup_x1 dJ2_clear_22 rfl rfl ?_
  refine V_putf (i := 2) k_J2 dJ2_clear_23 (by decide) q157 rfl upw_self (Nat.le_of_ble_eq_true rfl) (fun _ => rfl) (fun _ => rfl) ?_
  refine V_istore_n dJ2_clear_26 rfl (Nat.le_of_ble_eq_true rfl) (Nat.le_of_ble_eq_true rfl) ?_
  rw [upw_upw]
  refine V_w (w2 := (upw (upw w b (liC (md + nI 1) e (nI 0))) e (daC (nul 0 f)))) (by rw [nul_0]; exact (upw_same (by rw [upw_ne heb]; exact he)).symm) ?_
  exact L sz 0 (by omega)
set_option maxHeartbeats 4000000 in
theorem j_fast (l : Launch) {w : xW} {b e sz : Nat} {md : Int32} {f : Nat → Value} (hb : w b = some (liC md e (nI (sz + 1)))) (he : w e = some (daC f)) (heb : e ≠ b) (hs : sz < 10) : Cr l yJ2_fastRemove cJ2_fastRemove 4 none 0 0 0 xF0 [.ref b, .ref e, .int (nI sz)] w none (upw (upw w e (daC (xup f sz .null))) b (liC (md + nI 1) e (nI sz))) := by
  refine Cr_start (ls := [some (.ref b), some (.ref e), some (.int (nI sz)), none]) (by decide) rfl (Nat.le_of_ble_eq_true rfl) (fun _ _ _ h => h) ?_
  intro Q hQ
  refine V_aload_n dJ2_fastRemove_0 rfl ?_
  refine V_dup dJ2_fastRemove_1 rfl ?_
  refine V_getfU (i := 0) k_J2 dJ2_fastRemove_2 (by decide) q159 q160 hb rfl ?_
  refine V_iconst dJ2_fastRemove_5 li_1 ?_
  refine V_iadd dJ2_fastRemove_6 ?_
  refine V_putfU (i := 0) k_J2 dJ2_fastRemove_7 (by decide) q159 q160 rfl hb (Nat.le_of_ble_eq_true rfl) (fun _ => rfl) (fun _ => rfl) ?_
  refine V_aload_n dJ2_fastRemove_10 rfl ?_
  refine V_getf (i := 2) k_J2 dJ2_fastRemove_11 (by decide) q157 upw_self rfl ?_
  refine V_iconst dJ2_fastRemove_14 li_1 ?_
  refine V_isubN dJ2_fastRemove_15 (by omega) ?_
  rw [Nat.add_sub_cancel]
  refine V_dup dJ2_fastRemove_16 rfl ?_
  refine V_istore_n dJ2_fastRemove_17 rfl (Nat.le_of_ble_eq_true rfl) (Nat.le_of_ble_eq_true rfl) ?_
  refine V_iload_n dJ2_fastRemove_18 rfl ?_
  refine V_icmp_le (tgt := 34) dJ2_fastRemove_19 (by decide) (fun _ => ?_) (fun c19 => absurd (nI_le (Nat.le_refl sz) (by omega)) c19)
  refine V_aload_n dJ2_fastRemove_34 rfl ?_
  refine V_aload_n dJ2_fastRemove_35 rfl ?_
  refine V_iload_n dJ2_fastRemove_36 rfl ?_
  refine V_dup_x1 dJ2_fastRemove_37 rfl rfl ?_
  refine V_putf (i := 2) k_J2 dJ2_fastRemove_38 (by decide) q157 rfl upw_self (Nat.le_of_ble_eq_true rfl) (fun _ => rfl) (fun _ => rfl) ?_
  refine V_null dJ2_fastRemove_41 ?_
  refine V_aastN dJ2_fastRemove_42 (N := 10) (f := f) (by rw [upw_upw, upw_ne heb]; exact he) (vp_in_nI (show sz < 10 from hs) (by decide)) ?_
  rw [nI_clamp (by omega), upw_upw, upw_comm (Ne.symm heb)]
  exact V_vreturn dJ2_fastRemove_43 rfl hQ
set_option maxHeartbeats 4000000 in
theorem j_remove (l : Launch) {w : xW} {b e sz : Nat} {md : Int32} {f : Nat → Value} (hb : w b = some (liC md e (nI (sz + 1)))) (he : w e = some (daC f)) (heb : e ≠ b) (hs : sz < 10) {a : Nat} (ha : f sz = .ref a) : Cr l yJ2_remove cJ2_remove 4 (some (.object "java/lang/Object")) 2 0 0 xF0 [.ref b, .int (nI sz)] w (some (.ref a)) (upw (upw w e (daC (xup f sz .null))) b (liC (md + nI 1) e (nI sz))) := by
  refine Cr_start (ls := [some (.ref b), some (.int (nI sz)), none, none]) (by decide) rfl (Nat.le_of_ble_eq_true rfl) (fun _ _ _ h => h) ?_
  intro Q hQ
  refine V_iload_n dJ2_remove_0 rfl ?_
  refine V_aload_n dJ2_remove_1 rfl ?_
  refine V_getf (i := 2) k_J2 dJ2_remove_2 (by decide) q157 hb rfl ?_
  refine Vq_s (j_chk l w sz (sz + 1) (by omega) (by omega)) dJ2_remove_5 (lw_S q669 q670 q118 q671) hs_J13_checkIndex (by decide) rfl (Nat.le_of_ble_eq_true rfl) ?_
  refine V_pop dJ2_remove_8 rfl ?_
  refine V_aload_n dJ2_remove_9 rfl ?_
  refine V_getf (i := 1) k_J2 dJ2_remove_10 (by decide) q156 hb rfl ?_
  refine V_astore_n dJ2_remove_13 rfl (Nat.le_of_ble_eq_true rfl) (Nat.le_of_ble_eq_true rfl) ?_
  refine V_aload_n dJ2_remove_14 rfl ?_
  refine V_iload_n dJ2_remove_15 rfl ?_
  refine V_aald dJ2_remove_16 rfl he (vp_in_nI (show sz < 10 from hs) (by decide)) (v := .ref a) (by rw [nI_clamp (by omega)]; exact ha) ?_
  refine V_astore_n dJ2_remove_17 rfl (Nat.le_of_ble_eq_true rfl) (Nat.le_of_ble_eq_true rfl) ?_
  refine V_aload_n dJ2_remove_18 rfl ?_
  refine V_aload_n dJ2_remove_19 rfl ?_
  refine V_iload_n dJ2_remove_20 rfl ?_
  refine Vr_v (k' := 0) (n' := 0) (j_fast l hb he heb hs) dJ2_remove_21 (lw_V q752 q754 qs7 q100 q755) hv_J2_fastRemove (by decide) hb cl_J2 rfl rfl (Nat.le_of_ble_eq_true rfl) (fun _ h => h.elim) (fun _ _ => xok0) (fun _ _ => xok0) ⟨Nat.le_refl _, Nat.le_refl _⟩ ?_
  refine V_aload_n dJ2_remove_24 rfl ?_
  exact V_areturn dJ2_remove_25 rfl (.inl ⟨_, rfl⟩) (.inr ⟨_, rfl⟩) hQ
set_option maxHeartbeats 4000000 in
theorem j_init0 (l : Launch) {w : xW} {b : Nat} : Cr l yJ0_init cJ0_init 1 none 0 0 0 xF0 [.ref b] w none w := by
  refine Cr_start (ls := [some (.ref b)]) (by decide) rfl (Nat.le_of_ble_eq_true rfl) (fun _ _ _ h => h) ?_
  intro Q hQ
  refine V_aload_n dJ0_init_0 rfl ?_
  refine V_objInit dJ0_init_1 q153 q131 q132 ⟨Nat.le_of_ble_eq_true rfl, Nat.le_of_ble_eq_true rfl⟩ (by decide) ?_
  exact V_vreturn dJ0_init_4 rfl hQ
set_option maxHeartbeats 4000000 in
theorem j_init1 (l : Launch) {w : xW} {b : Nat} (hb : w b = some (.inr (3, true, [.int 0, .null, .int 0]))) : Cr l yJ1_init cJ1_init 1 none 1 0 0 xF0 [.ref b] w none (upw w b (.inr (3, true, [.int (nI 0), .null, .int 0]))) := by
  refine Cr_start (ls := [some (.ref b)]) (by decide) rfl (Nat.le_of_ble_eq_true rfl) (fun _ _ _ h => h) ?_
  intro Q hQ
  refine V_aload_n dJ1_init_0 rfl ?_
  refine Vr_i (k' := 0) (n' := 0) (j_init0 l) dJ1_init_1 q152 q98 q150 q151 rfl hs_J0_init (by decide) rfl (Nat.le_of_ble_eq_true rfl) (fun _ h => h.elim) (fun _ _ => xok0) (fun _ _ => xok0) ⟨Nat.le_refl _, Nat.le_refl _⟩ ?_
  refine V_aload_n dJ1_init_4 rfl ?_
  refine V_iconst dJ1_init_5 li_0 ?_
  refine V_putf (i := 0) k_J2 dJ1_init_6 (by decide) q158 rfl hb (Nat.le_of_ble_eq_true rfl) (fun _ => rfl) (fun _ => rfl) ?_
  exact V_vreturn dJ1_init_9 rfl hQ
set_option maxHeartbeats 4000000 in
theorem j_init (l : Launch) {w : xW} {b : Nat} (hb : w b = some (.inr (3, true, [.int 0, .null, .int 0]))) : Cr l yJ2_init cJ2_init 1 none 2 0 0 xF0 [.ref b] w none (upw w b (.inr (3, true, [.int (nI 0), .ref 904, .int 0]))) := by
  refine Cr_start (ls := [some (.ref b)]) (by decide) rfl (Nat.le_of_ble_eq_true rfl) (fun _ _ _ h => h) ?_
  intro Q hQ
  refine V_aload_n dJ2_init_0 rfl ?_
  refine Vr_i (k' := 0) (n' := 0) (j_init1 l hb) dJ2_init_1 q149 q99 q147 q148 rfl hs_J1_init (by decide) rfl (Nat.le_of_ble_eq_true rfl) (fun _ h => h.elim) (fun _ _ => xok0) (fun _ _ => xok0) ⟨Nat.le_refl _, Nat.le_refl _⟩ ?_
  refine V_aload_n dJ2_init_4 rfl ?_
  refine V_gets (v := .ref 904) (fun _ _ _ _ h => h.2.1) (fun _ h => by cases h; exact ⟨by decide, by decide⟩) dJ2_init_5 q154 ?_
  refine V_putf (i := 1) k_J2 dJ2_init_8 (by decide) q156 rfl upw_self (Nat.le_of_ble_eq_true rfl) (fun _ => rfl) (fun _ => rfl) ?_
  rw [upw_upw]
  exact V_vreturn dJ2_init_11 rfl hQ
def addX (q : Nat) (X : xSt) : xSt := mwr (mwr (mwr X 49 q (X 49 q + nI 1)) 50 q (nI 1)) (szr q) 0 (nI (cnt X q + 1))
def clX (q : Nat) (X : xSt) : xSt := mwr (mwr X 49 q (X 49 q + nI 1)) (szr q) 0 (nI 0)
def rmX (q : Nat) (X : xSt) : xSt := mwr (mwr X 49 q (X 49 q + nI 1)) (szr q) 0 (nI (cnt X q - 1))
theorem szr_b {q : Nat} : szr q = 2 ∨ szr q = 5 ∨ szr q = 10 ∨ szr q = 13 ∨ szr q = 17 ∨ szr q = 34 := by
  match q with
  | 0 => exact .inl rfl
  | 1 => exact .inr (.inl rfl)
  | 2 => exact .inr (.inr (.inl rfl))
  | 3 => exact .inr (.inr (.inr (.inl rfl)))
  | 4 => exact .inr (.inr (.inr (.inr (.inl rfl))))
  | q + 5 => exact .inr (.inr (.inr (.inr (.inr rfl))))
theorem szr_dep {q n i : Nat} (hq : q < 6) (h : dep n (szr q) i) : n = 192 + q ∨ n = 256 + q := by
  match q, hq, h with
  | 0, _, h => exact h
  | 1, _, h => exact h
  | 2, _, h => exact h
  | 3, _, h => exact h
  | 4, _, h => exact h
  | 5, _, h => exact h
  | q + 6, hq, _ => exact absurd hq (by omega)
theorem dep49 {q n : Nat} (hq : q < 6) (h : dep n 49 q) : n = 192 + q := h
theorem dep50 {q n : Nat} (hq : q < 6) (h : dep n 50 q) : n = 192 + q ∨ n = 256 + q := h
/-- a list's two cells decide a world that is else the same -/
theorem wX_li2 {X X' : xSt} {q : Nat} {c d : xC} (hq : q < 6) (h1 : wX X' (192 + q) = some d) (h2 : wX X' (256 + q) = some c) (ho : ∀ n, n ≠ 192 + q → n ≠ 256 + q → wX X' n = wX X n) : upw (upw (wX X) (256 + q) c) (192 + q) d = wX X' := by
  funext n
  by_cases e : n = 192 + q
  · rw [e, upw_self, h1]
  · rw [upw_ne e]
    by_cases e2 : n = 256 + q
    · rw [e2, upw_self, h2]
    · rw [upw_ne e2, ho n e e2]
theorem lifs_of {X : xSt} {q : Nat} {m s : Int32} {e : Nat} (h1 : X 49 q = m) (h2 : (if X 50 q = 0 then 904 else 256 + q) = e) (h3 : X (szr q) 0 = s) : lifs X q = [.int m, .ref e, .int s] := by
  unfold lifs
  rw [h1, h2, h3]
theorem cnt_of {X : xSt} {q j : Nat} (h : X (szr q) 0 = nI j) (hj : j < 2 ^ 31) : cnt X q = j := by
  unfold cnt
  rw [h]
  exact vN_nI hj
theorem eln_53 {X X' : xSt} (q i : Nat) (h : X' 53 0 = X 53 0) : eln X' q i = eln X q i := by
  unfold eln
  rw [h]
theorem addX_o {q : Nat} (X : xSt) {r i : Nat} (h1 : ¬ (r = 49 ∧ i = q)) (h2 : ¬ (r = 50 ∧ i = q)) (h3 : ¬ (r = szr q ∧ i = 0)) : addX q X r i = X r i := by
  unfold addX mwr
  rw [if_neg h3, if_neg h2, if_neg h1]
theorem addX_sz (q : Nat) (X : xSt) : addX q X (szr q) 0 = nI (cnt X q + 1) := mwr_s _ _ _ _
theorem addX_49 (q : Nat) (X : xSt) : addX q X 49 q = X 49 q + nI 1 := by
  have := @szr_b q
  unfold addX
  rw [mwr_r _ _ _ _ (by omega), mwr_r _ _ _ _ (by decide), mwr_s]
theorem addX_50 (q : Nat) (X : xSt) : addX q X 50 q = nI 1 := by
  have := @szr_b q
  unfold addX
  rw [mwr_r _ _ _ _ (by omega), mwr_s]
theorem addX_w {X : xSt} {q : Nat} (hq : q < 6) {n : Nat} (e1 : n ≠ 192 + q) (e2 : n ≠ 256 + q) : wX (addX q X) n = wX X n := by
  unfold addX
  rw [wX_mwr (fun h => by rcases szr_dep hq h with h | h; exact e1 h; exact e2 h), wX_mwr (fun h => by rcases dep50 hq h with h | h; exact e1 h; exact e2 h), wX_mwr (fun h => e1 (dep49 hq h))]
theorem nI1_0 : ¬ nI 1 = 0 := by decide +kernel
theorem addX_li {X : xSt} {q : Nat} (hq : q < 6) : wX (addX q X) (192 + q) = some (liC (X 49 q + nI 1) (256 + q) (nI (cnt X q + 1))) := by
  rw [wX_li _ hq, lifs_of (addX_49 q X) (by rw [addX_50, if_neg nI1_0]) (addX_sz q X)]
theorem addX_da {X : xSt} {q : Nat} (hq : q < 6) (hn : cnt X q < 10) : wX (addX q X) (256 + q) = some (daC (fun i => if i < cnt X q + 1 then .ref (eln X q i) else .null)) := by
  rw [wX_da _ ⟨hq, by rw [addX_50]; exact nI1_0⟩, cnt_of (addX_sz q X) (by omega)]
  have : ∀ i, eln (addX q X) q i = eln X q i := fun i => eln_53 q i (addX_o X (by omega) (by omega) (by have := @szr_b q; omega))
  simp only [this]
/-- what is known of list q -/
def LQ (X : xSt) (q : Nat) : Prop := q < 6 ∧ X (szr q) 0 = nI (cnt X q) ∧ cnt X q ≤ 10 ∧ (X 50 q = 0 → cnt X q = 0)
theorem LQ_li {X : xSt} {q : Nat} (h : LQ X q) : wX X (192 + q) = some (liC (X 49 q) (if X 50 q = 0 then 904 else 256 + q) (nI (cnt X q))) := by
  rw [wX_li _ h.1, lifs_of rfl rfl h.2.1]
theorem LQ_li1 {X : xSt} {q : Nat} (h : LQ X q) (h0 : ¬ X 50 q = 0) : wX X (192 + q) = some (liC (X 49 q) (256 + q) (nI (cnt X q))) := by
  rw [LQ_li h, if_neg h0]
theorem LQ_li0 {X : xSt} {q : Nat} (h : LQ X q) (h0 : X 50 q = 0) : wX X (192 + q) = some (liC (X 49 q) 904 (nI 0)) := by
  rw [LQ_li h, if_pos h0, h.2.2.2 h0]
section Q2
variable {l : Launch} {M : xM} {pc : Nat} {ls : List (Option Value)} {st : List Value} {X : xSt} {k n : Nat} {d0 c0 s0 index q : Nat} {F0 : Nat → Prop} {Q0 : Option Value → xW → Prop} {X0 : String → Nat → xW → Prop} {C : String}
/-- list.add(cell): the cell at the name of the place behind the last -/
theorem V_add {v k' n' : Nat} (hL : LQ X q) (hn : cnt X q < 10) (he : eln X q (cnt X q) = v) (hv : xIs (wX X) v C) (hC : Cond.castable C "java/lang/Object" ∈ xNw) (hCO : C ≠ "java/lang/Object") (hnr : X 50 q = 0 → ∀ n c, wX X n = some c → xnr (256 + q) c)
    (hd : decode M.2.1 pc = .ok (.invokevirtual index, 3)) (hG : GoodIn lw_all (wsV M.1 index RJ2 yJ2_add (ws_ yJ2_add cJ2_add 2 (some .boolean)))) (hF : X 50 q = 0 → F0 (256 + q)) (hls : X 50 q = 0 → ∀ v, some v ∈ ls → v ≠ .ref (256 + q)) (hst : X 50 q = 0 → ∀ v ∈ st, v ≠ .ref (256 + q)) (hcat : (st.map fun v => v.category).sum ≤ 8) (hR : 5 ≤ d0) (hk : (X 50 q = 0 → 1 + k' ≤ k ∧ 10 + n' ≤ n) ∧ k' ≤ k ∧ n' ≤ n)
    (kk : V l M (rmD d0 c0 s0, F0, Q0, X0) (pc + 3) ls (.int (nI 1) :: st) (wX (addX q X)) k' n') : V l M (rmD d0 c0 s0, F0, Q0, X0) pc ls (.ref v :: .ref (192 + q) :: st) (wX X) k n := by
  have hv6 : 640 ≤ v := by
    rw [← he]
    unfold eln
    by_cases z : q = 2 ∧ X 53 0 = nI 1
    · rw [if_pos z]; omega
    · rw [if_neg z]; omega
  have hq := hL.1
  by_cases h0 : X 50 q = 0
  · have hc0 := hL.2.2.2 h0
    have hk1 := hk.1 h0
    refine Vr_v (j_add2 l (LQ_li0 hL h0) (wX_904 X) (by omega) (wX_da0 X hq h0) (by omega) (hnr h0) hv (by omega) (by omega) hC hCO (by omega)) hd hG hv_J2_add (by omega) (LQ_li0 hL h0) cl_J2 rfl rfl hcat (fun n h => by rw [show n = 256 + q from h]; exact hF h0) (fun v hv n e z => hls h0 v hv (by rw [e, show n = 256 + q from z])) (fun v hv n e z => hst h0 v hv (by rw [e, show n = 256 + q from z])) hk1 ?_
    rw [wX_li2 (X' := addX q X) hq (by rw [addX_li hq, hc0]) ((addX_da hq hn).trans ?_) (fun n e1 e2 => addX_w hq e1 e2)]
    · exact kk
    · congr 4
      funext i
      rw [hc0]
      unfold xup
      by_cases z : i = 0
      · rw [if_pos (by omega), if_pos z, z, ← hc0, he]
      · rw [if_neg (by omega), if_neg z]
  · refine V_room hk.2.1 hk.2.2 ?_
    refine Vr_v (j_add1 l (LQ_li1 hL h0) (wX_da X ⟨hq, h0⟩) (by omega) hn hv hC hCO (by omega)) hd hG hv_J2_add (by omega) (LQ_li1 hL h0) cl_J2 rfl rfl hcat (fun _ h => h.elim) (fun _ _ => xok0) (fun _ _ => xok0) ⟨Nat.le_of_eq (Nat.zero_add _), Nat.le_of_eq (Nat.zero_add _)⟩ ?_
    rw [wX_li2 (X' := addX q X) hq (addX_li hq) ((addX_da hq hn).trans ?_) (fun n e1 e2 => addX_w hq e1 e2)]
    · exact kk
    · congr 4
      funext i
      unfold xup
      dsimp only
      by_cases z : i = cnt X q
      · rw [if_pos (by omega), if_pos z, z, he]
      · rw [if_neg z]
        by_cases g : i < cnt X q
        · rw [if_pos g, if_pos (by omega)]
        · rw [if_neg g, if_neg (by omega)]
/-- list.clear() -/
theorem clX_w {X : xSt} {q : Nat} {v : Int32} (hq : q < 6) {n : Nat} (e1 : n ≠ 192 + q) (e2 : n ≠ 256 + q) : wX (mwr (mwr X 49 q (X 49 q + nI 1)) (szr q) 0 v) n = wX X n := by
  rw [wX_mwr (fun h => by rcases szr_dep hq h with h | h; exact e1 h; exact e2 h), wX_mwr (fun h => e1 (dep49 hq h))]
theorem clX_li {X : xSt} {q : Nat} {v : Int32} (hq : q < 6) : wX (mwr (mwr X 49 q (X 49 q + nI 1)) (szr q) 0 v) (192 + q) = some (liC (X 49 q + nI 1) (if X 50 q = 0 then 904 else 256 + q) v) := by
  have := @szr_b q
  rw [wX_li _ hq, lifs_of (by rw [mwr_r _ _ _ _ (by omega), mwr_s]) (by rw [mwr_r _ _ _ _ (by omega), mwr_r _ _ _ _ (by decide)]) (mwr_s _ _ _ _)]
theorem clX_da {X : xSt} {q j : Nat} (hq : q < 6) (h0 : ¬ X 50 q = 0) (hj : j < 2 ^ 31) : wX (mwr (mwr X 49 q (X 49 q + nI 1)) (szr q) 0 (nI j)) (256 + q) = some (daC (fun i => if i < j then .ref (eln X q i) else .null)) := by
  have := @szr_b q
  rw [wX_da _ ⟨hq, by rw [mwr_r _ _ _ _ (by omega), mwr_r _ _ _ _ (by decide)]; exact h0⟩, cnt_of (mwr_s _ _ _ _) hj]
  have : ∀ i, eln (mwr (mwr X 49 q (X 49 q + nI 1)) (szr q) 0 (nI j)) q i = eln X q i := fun i => eln_53 q i (by rw [mwr_r _ _ _ _ (by omega), mwr_r _ _ _ _ (by decide)])
  simp only [this]
theorem V_clear (hL : LQ X q) (hd : decode M.2.1 pc = .ok (.invokevirtual index, 3)) (hG : GoodIn lw_all (wsV M.1 index RJ2 yJ2_clear (ws_ yJ2_clear cJ2_clear 4 none))) (hcat : (st.map fun v => v.category).sum ≤ 8) (hR : 1 ≤ d0)
    (kk : V l M (rmD d0 c0 s0, F0, Q0, X0) (pc + 3) ls st (wX (clX q X)) k n) : V l M (rmD d0 c0 s0, F0, Q0, X0) pc ls (.ref (192 + q) :: st) (wX X) k n := by
  have hq := hL.1
  by_cases h0 : X 50 q = 0
  · refine Vr_v (j_clear0 l (LQ_li0 hL h0)) hd hG hv_J2_clear (by omega) (LQ_li0 hL h0) cl_J2 rfl rfl hcat (fun _ h => h.elim) (fun _ _ => xok0) (fun _ _ => xok0) ⟨Nat.le_of_eq (Nat.zero_add _), Nat.le_of_eq (Nat.zero_add _)⟩ ?_
    refine V_w (w2 := wX (clX q X)) (wX_up (clX_li hq |>.trans (by rw [if_pos h0])) fun n e => ?_) kk
    by_cases e2 : n = 256 + q
    · subst e2
      rw [wX_da0 X hq h0]
      refine wX_da0 _ hq ?_
      have := @szr_b q
      unfold clX
      rw [mwr_r _ _ _ _ (by omega), mwr_r _ _ _ _ (by decide)]
      exact h0
    · exact clX_w hq e e2
  · refine Vr_v (j_clearN l (LQ_li1 hL h0) (wX_da X ⟨hq, h0⟩) (by omega) hL.2.2.1) hd hG hv_J2_clear (by omega) (LQ_li1 hL h0) cl_J2 rfl rfl hcat (fun _ h => h.elim) (fun _ _ => xok0) (fun _ _ => xok0) ⟨Nat.le_of_eq (Nat.zero_add _), Nat.le_of_eq (Nat.zero_add _)⟩ ?_
    rw [wX_li2 (X' := clX q X) hq ((clX_li hq).trans (by rw [if_neg h0])) ((clX_da hq h0 (by decide)).trans ?_) (fun n e1 e2 => clX_w hq e1 e2)]
    · exact kk
    · congr 4
      funext i
      unfold nul
      dsimp only
      by_cases z : i < cnt X q
      · rw [if_neg (Nat.not_lt_zero i), if_pos z]
      · rw [if_neg (Nat.not_lt_zero i), if_neg z, if_neg z]
/-- list.remove(the last place) -/
theorem V_remove {j : Nat} (hL : LQ X q) (hj : cnt X q = j + 1) (hd : decode M.2.1 pc = .ok (.invokevirtual index, 3)) (hG : GoodIn lw_all (wsV M.1 index RJ2 yJ2_remove (ws_ yJ2_remove cJ2_remove 4 (some (.object "java/lang/Object"))))) (hcat : (st.map fun v => v.category).sum ≤ 8) (hR : 3 ≤ d0)
    (kk : V l M (rmD d0 c0 s0, F0, Q0, X0) (pc + 3) ls (.ref (eln X q j) :: st) (wX (rmX q X)) k n) : V l M (rmD d0 c0 s0, F0, Q0, X0) pc ls (.int (nI j) :: .ref (192 + q) :: st) (wX X) k n := by
  have hq := hL.1
  have h0 : ¬ X 50 q = 0 := fun z => by have := hL.2.2.2 z; omega
  have hj10 := hL.2.2.1
  have hb := LQ_li1 hL h0
  rw [hj] at hb
  refine Vr_v (j_remove l hb (wX_da X ⟨hq, h0⟩) (by omega) (by omega) (a := eln X q j) (if_pos (by omega))) hd hG hv_J2_remove (by omega) hb cl_J2 rfl rfl hcat (fun _ h => h.elim) (fun _ _ => xok0) (fun _ _ => xok0) ⟨Nat.le_of_eq (Nat.zero_add _), Nat.le_of_eq (Nat.zero_add _)⟩ ?_
  rw [wX_li2 (X' := rmX q X) hq ((clX_li hq).trans (by rw [if_neg h0, hj, Nat.add_sub_cancel])) ((clX_da hq h0 (by omega)).trans ?_) (fun n e1 e2 => clX_w hq e1 e2)]
  · exact kk
  · congr 4
    funext i
    rw [hj, Nat.add_sub_cancel]
    unfold xup
    dsimp only
    by_cases z : i = j
    · rw [if_pos z, if_neg (by omega)]
    · rw [if_neg z]
      by_cases g : i < j
      · rw [if_pos g, if_pos (by omega)]
      · rw [if_neg g, if_neg (by omega)]
/-- list.size(), isEmpty(), get(i) -/
theorem V_size (hL : LQ X q) (hd : decode M.2.1 pc = .ok (.invokevirtual index, 3)) (hG : GoodIn lw_all (wsV M.1 index RJ2 yJ2_size (ws_ yJ2_size cJ2_size 1 (some .int)))) (hcat : (st.map fun v => v.category).sum ≤ 8) (hR : 1 ≤ d0)
    (kk : V l M (rmD d0 c0 s0, F0, Q0, X0) (pc + 3) ls (.int (nI (cnt X q)) :: st) (wX X) k n) : V l M (rmD d0 c0 s0, F0, Q0, X0) pc ls (.ref (192 + q) :: st) (wX X) k n :=
  Vq_v (j_size l (LQ_li hL)) hd hG hv_J2_size (by omega) (LQ_li hL) cl_J2 rfl rfl hcat kk
theorem V_isEmpty (hL : LQ X q) (hd : decode M.2.1 pc = .ok (.invokevirtual index, 3)) (hG : GoodIn lw_all (wsV M.1 index RJ2 yJ2_isEmpty (ws_ yJ2_isEmpty cJ2_isEmpty 1 (some .boolean)))) (hcat : (st.map fun v => v.category).sum ≤ 8) (hR : 1 ≤ d0)
    (kk : V l M (rmD d0 c0 s0, F0, Q0, X0) (pc + 3) ls (.int (bI (nI (cnt X q) = 0)) :: st) (wX X) k n) : V l M (rmD d0 c0 s0, F0, Q0, X0) pc ls (.ref (192 + q) :: st) (wX X) k n :=
  Vq_v (j_isEmpty l (LQ_li hL)) hd hG hv_J2_isEmpty (by omega) (LQ_li hL) cl_J2 rfl rfl hcat kk
theorem V_get {i : Int32} {x : Nat} (hL : LQ X q) (hi : i = nI x) (hx : x < cnt X q) (hd : decode M.2.1 pc = .ok (.invokevirtual index, 3)) (hG : GoodIn lw_all (wsV M.1 index RJ2 yJ2_get (ws_ yJ2_get cJ2_get 2 (some (.object "java/lang/Object"))))) (hcat : (st.map fun v => v.category).sum ≤ 8) (hR : 3 ≤ d0)
    (kk : V l M (rmD d0 c0 s0, F0, Q0, X0) (pc + 3) ls (.ref (eln X q x) :: st) (wX X) k n) : V l M (rmD d0 c0 s0, F0, Q0, X0) pc ls (.int i :: .ref (192 + q) :: st) (wX X) k n := by
  subst hi
  have h0 : ¬ X 50 q = 0 := fun z => by have := hL.2.2.2 z; omega
  exact Vq_v (j_get l (LQ_li1 hL h0) (wX_da X ⟨hL.1, h0⟩) x _ hx hL.2.2.1 (by decide) (if_pos hx)) hd hG hv_J2_get (by omega) (LQ_li1 hL h0) cl_J2 rfl rfl hcat kk
end Q2
