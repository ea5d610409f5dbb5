/-! PromiseTailor's constructors -/
set_option maxRecDepth 100000
/-- the blank numbers -/
def XBl : xSt := fun r i => if r = 45 ∧ (i = 0 ∨ i = 2) then -1 else 0
theorem XBl_0 {r i : Nat} (h : r ≠ 45) : XBl r i = 0 := if_neg fun z => h z.1
def mdB : List (Nat × Nat) → Nat → Bool
  | [], _ => false
  | r :: L, n => (decide (r.1 ≤ n) && decide (n < r.2)) || mdB L n
abbrev mdP (L : List (Nat × Nat)) (n : Nat) : Prop := mdB L n = true
theorem mdP_c {r : Nat × Nat} {L : List (Nat × Nat)} {n : Nat} : mdP (r :: L) n ↔ ((r.1 ≤ n ∧ n < r.2) ∨ mdP L n) := by
  show ((decide (r.1 ≤ n) && decide (n < r.2)) || mdB L n) = true ↔ _
  rw [Bool.or_eq_true, Bool.and_eq_true, decide_eq_true_iff, decide_eq_true_iff]
/-- the world half made: the object's fields fs, the cells named in L -/
def wI (L : List (Nat × Nat)) (fs : List Value) : xW := fun n => if n = 0 then some (.inr (0, true, fs)) else if mdP L n then wX XBl n else none
theorem wI_0 {L : List (Nat × Nat)} {fs : List Value} : wI L fs 0 = some (.inr (0, true, fs)) := if_pos rfl
theorem wI_at {L : List (Nat × Nat)} {fs : List Value} {a : Nat} (h0 : a ≠ 0) (h : mdP L a) : wI L fs a = wX XBl a := by unfold wI; rw [if_neg h0, if_pos h]
theorem wI_no {L : List (Nat × Nat)} {fs : List Value} {a : Nat} (h0 : a ≠ 0) (h : ¬ mdP L a) : wI L fs a = none := by unfold wI; rw [if_neg h0, if_neg h]
theorem wI_fs {L : List (Nat × Nat)} {fs gs : List Value} : upw (wI L fs) 0 (.inr (0, true, gs)) = wI L gs := by
  funext n
  by_cases h : n = 0
  · rw [h, upw_self, wI_0]
  · rw [upw_ne h]
    unfold wI
    rw [if_neg h, if_neg h]
theorem wI_new {L : List (Nat × Nat)} {fs : List Value} {a : Nat} {c : xC} (h0 : a ≠ 0) (hc : wX XBl a = some c) : upw (wI L fs) a c = wI ((a, a + 1) :: L) fs := by
  funext n
  by_cases h : n = a
  · rw [h, upw_self]
    unfold wI
    rw [if_neg h0, if_pos (mdP_c.mpr (.inl ⟨Nat.le_refl _, Nat.lt_succ_self _⟩)), hc]
  · rw [upw_ne h]
    unfold wI
    by_cases h1 : n = 0
    · rw [if_pos h1, if_pos h1]
    · rw [if_neg h1, if_neg h1]
      by_cases h2 : mdP L n
      · rw [if_pos h2, if_pos (mdP_c.mpr (.inr h2))]
      · rw [if_neg h2, if_neg (fun z => (mdP_c.mp z).elim (fun q => h (by have q1 : a ≤ n := q.1; have q2 : n < a + 1 := q.2; omega)) h2)]
theorem wI_upm {L : List (Nat × Nat)} {fs : List Value} {a b N K : Nat} {g : Nat → Nat → Value} (h0 : a ≠ 0) (hb : 0 < b) (hc : wX XBl a = some (.inl (.array .int, true, N, fun i => .ref (b + i)))) (hg : ∀ x, b ≤ x ∧ x < b + N → wX XBl x = some (.inl (.int, true, K, g (x - b)))) : upm (wI L fs) a b N K g = wI ((a, a + 1) :: (b, b + N) :: L) fs := by
  funext n
  unfold upm
  by_cases h : n = a
  · rw [if_pos h, h, wI_at h0 (mdP_c.mpr (.inl ⟨Nat.le_refl _, Nat.lt_succ_self _⟩)), hc]
  · rw [if_neg h]
    by_cases h1 : b ≤ n ∧ n < b + N
    · rw [if_pos h1, wI_at (by omega) (mdP_c.mpr (.inr (mdP_c.mpr (.inl h1)))), hg n h1]
    · rw [if_neg h1]
      unfold wI
      by_cases h2 : n = 0
      · rw [if_pos h2, if_pos h2]
      · rw [if_neg h2, if_neg h2]
        by_cases h3 : mdP L n
        · rw [if_pos h3, if_pos (mdP_c.mpr (.inr (mdP_c.mpr (.inr h3))))]
        · rw [if_neg h3, if_neg (fun z => by
            rcases mdP_c.mp z with q | q
            · have q1 : a ≤ n := q.1
              have q2 : n < a + 1 := q.2
              omega
            · rcases mdP_c.mp q with q | q
              · exact h1 q
              · exact h3 q)]
/-- whom a cell of the blank world names -/
def men (n a : Nat) : Prop := (n = 64 ∧ (a = 128 ∨ a = 192)) ∨ (n = 65 ∧ (a = 129 ∨ a = 193)) ∨ (192 ≤ n ∧ n < 198 ∧ a = 904) ∨ (n = 704 ∧ 384 ≤ a ∧ a < 408) ∨ (n = 705 ∧ 448 ≤ a ∧ a < 472) ∨ (n = 706 ∧ 512 ≤ a ∧ a < 536) ∨ (n = 707 ∧ 576 ≤ a ∧ a < 586) ∨ (n = 709 ∧ 640 ≤ a ∧ a < 648) ∨ (n = 710 ∧ 768 ≤ a ∧ a < 772) ∨ (900 ≤ n ∧ 900 ≤ a ∧ a < 950)
theorem XBl_nr {n a : Nat} {c : xC} (h : wX XBl n = some c) (h0 : n ≠ 0) (hm : ¬ men n a) : xnr a c := by
  unfold wX at h
  have e : n = 64 * (n / 64) + n % 64 := (Nat.div_add_mod n 64).symm
  generalize n / 64 = b at h e
  generalize n % 64 = d at h e
  have hr : ∀ x, men n x → x ≠ a := fun x hx z => hm (z ▸ hx)
  have hs : ∀ x N, (∀ i, i < N → men n (x + i)) → (a < x ∨ x + N ≤ a) := fun x N hx => by
    by_cases z : a < x ∨ x + N ≤ a
    · exact z
    · exfalso
      have := hr _ (hx (a - x) (by omega))
      omega
  unfold men at hr hs
  match b, h with
  | 0, h => exact xnr_if (C := d = 0) h fun hd => absurd (by omega) h0
  | 1, h => exact xnr_if (C := d < 2) h fun hd => xnr_o (nrc (nrR (hr _ (by omega))) (nrc (nrI) (nrc (nrI) (nrc (nrI) (nrc (nrI) (nrc (nrI) (nrc (nrR (hr _ (by omega))) (nr0))))))))
  | 2, h => exact xnr_if (C := d < 2) h fun _ => xnr_cutI
  | 3, h => exact xnr_if (C := d < 6) h fun hd => xnr_o (nrc nrI (nrc (nrR (by rw [if_pos (XBl_0 (by decide))]; exact hr _ (by omega))) (nrc nrI nr0)))
  | 4, h => exact xnr_if (C := d < 6 ∧ XBl 50 d ≠ 0) h fun hd => absurd (XBl_0 (by decide)) hd.2
  | 5, h => exact xnr_if (C := d < 3) h fun _ => xnr_cutI
  | 6, h => exact xnr_if (C := d < 24) h fun _ => xnr_cutI
  | 7, h => exact xnr_if (C := d < 24) h fun _ => xnr_cutI
  | 8, h => exact xnr_if (C := d < 24) h fun _ => xnr_cutI
  | 9, h => exact xnr_if (C := d < 10) h fun _ => xnr_cutI
  | 10, h => exact xnr_if (C := d < 8) h fun _ => xnr_cutI
  | 11, h =>
    match d, h with
    | 0, h => cases h; exact xnr_refs (hs _ _ (fun i hi => by omega))
    | 1, h => cases h; exact xnr_refs (hs _ _ (fun i hi => by omega))
    | 2, h => cases h; exact xnr_refs (hs _ _ (fun i hi => by omega))
    | 3, h => cases h; exact xnr_refs (hs _ _ (fun i hi => by omega))
    | 4, h =>
      cases h
      intro j hj z
      have hj : j < 8 := hj
      dsimp only [cutV] at z
      rw [if_pos hj] at z
      unfold asV at z
      rw [if_pos (XBl_0 (by decide))] at z
      cases z
    | 5, h => cases h; exact xnr_refs (hs _ _ (fun i hi => by omega))
    | 6, h => cases h; exact xnr_refs (hs _ _ (fun i hi => by omega))
    | d + 7, h => exact absurd (show none = some c from h) (fun z => nomatch z)
  | 12, h => exact xnr_if (C := d < 4) h fun hd => xnr_o (nrc (by rw [if_pos (XBl_0 (by decide))]; exact nrN) nr0)
  | 13, h => exact xnr_if (C := d < 4 ∧ XBl 39 d ≠ 0) h fun hd => absurd (XBl_0 (by decide)) hd.2
  | 14, h =>
    have h : cl14 XBl d = some c := h
    unfold cl14 at h
    by_cases d1 : d = 4
    · rw [if_pos d1] at h
      cases h
      exact xnr_refs (hs _ _ (fun i hi => by omega))
    · rw [if_neg d1] at h
      by_cases d2 : 4 < d ∧ d < 8
      · rw [if_pos d2] at h
        cases h
        exact xnr_o nr0
      · rw [if_neg d2] at h
        by_cases d3 : d = 8
        · rw [if_pos d3] at h
          cases h
          exact fun j hj => absurd hj (Nat.not_lt_zero _)
        · rw [if_neg d3] at h
          by_cases d4 : 13 < d ∧ d < 20
          · rw [if_pos d4] at h
            cases h
            exact xnr_o (nrc (nrR (hr _ (by omega))) (nrc nrI nr0))
          · rw [if_neg d4] at h
            by_cases d5 : 23 < d ∧ d < 30
            · rw [if_pos d5] at h
              cases h
              exact fun j _ => nrI
            · rw [if_neg d5] at h
              cases h
  | 15, h => cases h
  | 16, h => cases h
  | 17, h => exact absurd (show cl17 XBl d = some c from h) (by unfold cl17; rw [if_neg (show ¬ d < std XBl 0 from by unfold std; rw [XBl_0 (by decide), show vN 0 = 0 from by decide +kernel]; exact Nat.not_lt_zero _)]; exact fun z => nomatch z)
  | 18, h => exact absurd (show cl18 XBl d = some c from h) (by unfold cl18; rw [if_neg (show ¬ d < std XBl 1 from by unfold std; rw [XBl_0 (by decide), show vN 0 = 0 from by decide +kernel]; exact Nat.not_lt_zero _)]; exact fun z => nomatch z)
  | 19, h => exact absurd (show cl19 XBl d = some c from h) (by unfold cl19; rw [if_neg (show ¬ d < std XBl 2 from by unfold std; rw [XBl_0 (by decide), show vN 0 = 0 from by decide +kernel]; exact Nat.not_lt_zero _)]; exact fun z => nomatch z)
  | 20, h => exact absurd (show cl20 XBl d = some c from h) (by unfold cl20; rw [if_neg (show ¬ d < std XBl 3 from by unfold std; rw [XBl_0 (by decide), show vN 0 = 0 from by decide +kernel]; exact Nat.not_lt_zero _)]; exact fun z => nomatch z)
  | 21, h => exact absurd (show cl21 XBl d = some c from h) (by unfold cl21; rw [if_neg (show ¬ d < std XBl 4 from by unfold std; rw [XBl_0 (by decide), show vN 0 = 0 from by decide +kernel]; exact Nat.not_lt_zero _)]; exact fun z => nomatch z)
  | 22, h => exact absurd (show cl22 XBl d = some c from h) (by unfold cl22; rw [if_neg (show ¬ d < std XBl 5 from by unfold std; rw [XBl_0 (by decide), show vN 0 = 0 from by decide +kernel]; exact Nat.not_lt_zero _)]; exact fun z => nomatch z)
  | b + 23, h => exact absurd (show none = some c from h) (fun z => nomatch z)
theorem wI_nr {L : List (Nat × Nat)} {fs : List Value} {a : Nat} (hf : ∀ v ∈ fs, v = .ref a → False) (hL : ∀ n, mdP L n → ¬ men n a) : ∀ n c, wI L fs n = some c → xnr a c := by
  intro n c h
  unfold wI at h
  by_cases h0 : n = 0
  · rw [if_pos h0] at h
    cases h
    exact xnr_o hf
  · rw [if_neg h0] at h
    by_cases h1 : mdP L n
    · rw [if_pos h1] at h
      exact XBl_nr h h0 (hL n h1)
    · rw [if_neg h1] at h
      cases h
theorem upw_nr {w : xW} {b a : Nat} {d : xC} (hd : xnr a d) (h : ∀ n c, w n = some c → xnr a c) : ∀ n c, upw w b d n = some c → xnr a c := by
  intro n c hc
  by_cases e : n = b
  · rw [e, upw_self] at hc
    cases hc
    exact hd
  · rw [upw_ne e] at hc
    exact h n c hc
def fT (t n : Nat) : Prop := n = 192 + t ∨ n = 128 + t
theorem fT_lo {t : Nat} (h : t < 2) : ∀ n, 900 ≤ n → n < 950 → ¬ fT t n := fun n a b z => by unfold fT at z; omega
def fI (n : Nat) : Prop := 64 ≤ n ∧ n < 900
theorem fI_lo : ∀ n, 900 ≤ n → n < 950 → ¬ fI n := fun n a b z => by unfold fI at z; omega

def tW0 (w : xW) : xW := upw (upw (upw w 192 (.inr (3, true, [.int (nI 0), .ref 904, .int 0]))) 128 (.inl (.byte, true, 23, cutI 23 (fun i => (XBl 1 (49 * 0 + i)).toInt8.toInt32)))) 64 (.inr (1, true, [.ref 128, .int (nI 8), .int 0, .int 0, .int 0, .int 0, .ref 192]))
set_option maxHeartbeats 4000000 in
theorem x_tinit0 (l : Launch) {w : xW} (hb : w 64 = some (.inr (1, true, [.null, .int 0, .int 0, .int 0, .int 0, .int 0, .null]))) (h1 : w 192 = none) (h2 : w 128 = none) (hr : ∀ a, (a = 192 ∨ a = 128) → ∀ n c, w n = some c → xnr a c) : Cr l yX1_init cX1_init 3 none 3 2 26 (fT 0) [.ref 64, .int (nI 23), .int (nI 8)] w none (tW0 w) := by
  refine Cr_start (ls := [some (.ref 64), some (.int (nI 23)), some (.int (nI 8))]) (by decide) rfl (Nat.le_of_ble_eq_true rfl) (fT_lo (by decide)) ?_
  intro Q hQ
  refine V_aload_n dX1_init_0 rfl ?_
  refine V_objInit dX1_init_1 q141 q131 q132 ⟨Nat.le_of_ble_eq_true rfl, Nat.le_of_ble_eq_true rfl⟩ (by decide) ?_
  refine V_aload_n dX1_init_4 rfl ?_
  refine V_new (k' := 1) (n' := 23) (fs := [.int 0, .null, .int 0]) 192 k_J2 dX1_init_5 q142 q143 q100 (by decide +kernel) h1 (.inl rfl) (hr 192 (.inl rfl)) (nel_c (ne_r (by decide)) (nel_c ne_i (nel_c ne_i nel_0))) (nes_c (ne_r (by decide)) nes_0) ⟨by decide, by decide⟩ ?_
  refine V_dup dX1_init_8 rfl ?_
  refine Vr_i (k' := 1) (n' := 23) (j_init l upw_self) dX1_init_9 q146 q100 q144 q145 rfl hs_J2_init (by decide) rfl (Nat.le_of_ble_eq_true rfl) (fun _ h => h.elim) (fun _ _ => xok0) (fun _ _ => xok0) ⟨Nat.le_of_eq (Nat.zero_add _), Nat.le_of_eq (Nat.zero_add _)⟩ ?_
  rw [upw_upw]
  have g1 : upw w 192 (.inr (3, true, [.int (nI 0), .ref 904, .int 0])) 64 = some (.inr (1, true, [.null, .int 0, .int 0, .int 0, .int 0, .int 0, .null])) := by rw [upw_ne (by decide)]; exact hb
  refine V_putF (i := 6) k_X2 dX1_init_12 (by decide) q174 rfl rfl rfl g1 (Nat.le_of_ble_eq_true rfl) (fun _ => rfl) (fun _ => rfl) ?_
  refine V_aload_n dX1_init_15 rfl ?_
  refine V_iload_n dX1_init_16 rfl ?_
  refine V_newa (k' := 0) (n' := 0) (N := 23) (f := cutI 23 (fun i => (XBl 1 (49 * 0 + i)).toInt8.toInt32)) 128 rfl dX1_init_17 q194 (by decide +kernel) (by decide +kernel) (by decide) (fun j hj => by rw [cutI_at hj, XBl_0 (by decide)]; decide +kernel) (by rw [upw_ne (by decide), upw_ne (by decide)]; exact h2) (.inr rfl) (upw_nr (xnr_o (nrc nrN (nrc nrI (nrc nrI (nrc nrI (nrc nrI (nrc nrI (nrc (nrR (by decide)) nr0)))))))) (upw_nr (xnr_o (nrc nrI (nrc (nrR (by decide)) (nrc nrI nr0)))) (hr 128 (.inr rfl)))) (nel_c (ne_r (by decide)) (nel_c ne_i (nel_c ne_i nel_0))) (nes_c (ne_r (by decide)) nes_0) ⟨by decide, by decide⟩ ?_
  refine V_putF (i := 0) k_X2 dX1_init_19 (by decide) q168 rfl rfl rfl (by rw [upw_ne (by decide)]; exact upw_self) (Nat.le_of_ble_eq_true rfl) (fun _ => rfl) (fun _ => rfl) ?_
  refine V_aload_n dX1_init_22 rfl ?_
  refine V_iload_n dX1_init_23 rfl ?_
  refine V_putF (i := 1) k_X2 dX1_init_24 (by decide) q169 rfl rfl rfl upw_self (Nat.le_of_ble_eq_true rfl) (fun _ => rfl) (fun _ => rfl) ?_
  rw [upw_upw, upw_comm (a := 64) (b := 128) (by decide), upw_upw]
  exact V_vreturn dX1_init_27 rfl hQ
set_option maxHeartbeats 4000000 in
theorem x_initX2 (l : Launch) {w : xW} (hb : w 64 = some (.inr (1, true, [.null, .int 0, .int 0, .int 0, .int 0, .int 0, .null]))) (h1 : w 192 = none) (h2 : w 128 = none) (hr : ∀ a, (a = 192 ∨ a = 128) → ∀ n c, w n = some c → xnr a c) : Cr l yX2_init cX2_init 1 none 4 2 26 (fT 0) [.ref 64] w none (tW0 w) := by
  refine Cr_start (ls := [some (.ref 64)]) (by decide) rfl (Nat.le_of_ble_eq_true rfl) (fT_lo (by decide)) ?_
  intro Q hQ
  refine V_aload_n dX2_init_0 rfl ?_
  refine V_bipush dX2_init_1 lb_23 ?_
  refine V_bipush dX2_init_3 lb_8 ?_
  refine Vr_i (k' := 0) (n' := 0) (x_tinit0 l hb h1 h2 hr) dX2_init_5 q140 q96 q138 q139 rfl hs_X1_init (by decide) rfl (Nat.le_of_ble_eq_true rfl) (fun _ h => h) (okl_c (ok_r (by unfold fT; decide)) okl_0) oks_0 ⟨Nat.le_refl _, Nat.le_refl _⟩ ?_
  exact V_vreturn dX2_init_8 rfl hQ

def tW1 (w : xW) : xW := upw (upw (upw w 193 (.inr (3, true, [.int (nI 0), .ref 904, .int 0]))) 129 (.inl (.byte, true, 49, cutI 49 (fun i => (XBl 1 (49 * 1 + i)).toInt8.toInt32)))) 65 (.inr (2, true, [.ref 129, .int (nI 10), .int 0, .int 0, .int 0, .int 0, .ref 193]))
set_option maxHeartbeats 4000000 in
theorem x_tinit1 (l : Launch) {w : xW} (hb : w 65 = some (.inr (2, true, [.null, .int 0, .int 0, .int 0, .int 0, .int 0, .null]))) (h1 : w 193 = none) (h2 : w 129 = none) (hr : ∀ a, (a = 193 ∨ a = 129) → ∀ n c, w n = some c → xnr a c) : Cr l yX1_init cX1_init 3 none 3 2 52 (fT 1) [.ref 65, .int (nI 49), .int (nI 10)] w none (tW1 w) := by
  refine Cr_start (ls := [some (.ref 65), some (.int (nI 49)), some (.int (nI 10))]) (by decide) rfl (Nat.le_of_ble_eq_true rfl) (fT_lo (by decide)) ?_
  intro Q hQ
  refine V_aload_n dX1_init_0 rfl ?_
  refine V_objInit dX1_init_1 q141 q131 q132 ⟨Nat.le_of_ble_eq_true rfl, Nat.le_of_ble_eq_true rfl⟩ (by decide) ?_
  refine V_aload_n dX1_init_4 rfl ?_
  refine V_new (k' := 1) (n' := 49) (fs := [.int 0, .null, .int 0]) 193 k_J2 dX1_init_5 q142 q143 q100 (by decide +kernel) h1 (.inl rfl) (hr 193 (.inl rfl)) (nel_c (ne_r (by decide)) (nel_c ne_i (nel_c ne_i nel_0))) (nes_c (ne_r (by decide)) nes_0) ⟨by decide, by decide⟩ ?_
  refine V_dup dX1_init_8 rfl ?_
  refine Vr_i (k' := 1) (n' := 49) (j_init l upw_self) dX1_init_9 q146 q100 q144 q145 rfl hs_J2_init (by decide) rfl (Nat.le_of_ble_eq_true rfl) (fun _ h => h.elim) (fun _ _ => xok0) (fun _ _ => xok0) ⟨Nat.le_of_eq (Nat.zero_add _), Nat.le_of_eq (Nat.zero_add _)⟩ ?_
  rw [upw_upw]
  have g1 : upw w 193 (.inr (3, true, [.int (nI 0), .ref 904, .int 0])) 65 = some (.inr (2, true, [.null, .int 0, .int 0, .int 0, .int 0, .int 0, .null])) := by rw [upw_ne (by decide)]; exact hb
  refine V_putF (i := 6) k_X3 dX1_init_12 (by decide) q174 rfl rfl rfl g1 (Nat.le_of_ble_eq_true rfl) (fun _ => rfl) (fun _ => rfl) ?_
  refine V_aload_n dX1_init_15 rfl ?_
  refine V_iload_n dX1_init_16 rfl ?_
  refine V_newa (k' := 0) (n' := 0) (N := 49) (f := cutI 49 (fun i => (XBl 1 (49 * 1 + i)).toInt8.toInt32)) 129 rfl dX1_init_17 q194 (by decide +kernel) (by decide +kernel) (by decide) (fun j hj => by rw [cutI_at hj, XBl_0 (by decide)]; decide +kernel) (by rw [upw_ne (by decide), upw_ne (by decide)]; exact h2) (.inr rfl) (upw_nr (xnr_o (nrc nrN (nrc nrI (nrc nrI (nrc nrI (nrc nrI (nrc nrI (nrc (nrR (by decide)) nr0)))))))) (upw_nr (xnr_o (nrc nrI (nrc (nrR (by decide)) (nrc nrI nr0)))) (hr 129 (.inr rfl)))) (nel_c (ne_r (by decide)) (nel_c ne_i (nel_c ne_i nel_0))) (nes_c (ne_r (by decide)) nes_0) ⟨by decide, by decide⟩ ?_
  refine V_putF (i := 0) k_X3 dX1_init_19 (by decide) q168 rfl rfl rfl (by rw [upw_ne (by decide)]; exact upw_self) (Nat.le_of_ble_eq_true rfl) (fun _ => rfl) (fun _ => rfl) ?_
  refine V_aload_n dX1_init_22 rfl ?_
  refine V_iload_n dX1_init_23 rfl ?_
  refine V_putF (i := 1) k_X3 dX1_init_24 (by decide) q169 rfl rfl rfl upw_self (Nat.le_of_ble_eq_true rfl) (fun _ => rfl) (fun _ => rfl) ?_
  rw [upw_upw, upw_comm (a := 65) (b := 129) (by decide), upw_upw]
  exact V_vreturn dX1_init_27 rfl hQ
set_option maxHeartbeats 4000000 in
theorem x_initX3 (l : Launch) {w : xW} (hb : w 65 = some (.inr (2, true, [.null, .int 0, .int 0, .int 0, .int 0, .int 0, .null]))) (h1 : w 193 = none) (h2 : w 129 = none) (hr : ∀ a, (a = 193 ∨ a = 129) → ∀ n c, w n = some c → xnr a c) : Cr l yX3_init cX3_init 1 none 4 2 52 (fT 1) [.ref 65] w none (tW1 w) := by
  refine Cr_start (ls := [some (.ref 65)]) (by decide) rfl (Nat.le_of_ble_eq_true rfl) (fT_lo (by decide)) ?_
  intro Q hQ
  refine V_aload_n dX3_init_0 rfl ?_
  refine V_bipush dX3_init_1 lb_49 ?_
  refine V_bipush dX3_init_3 lb_10 ?_
  refine Vr_i (k' := 0) (n' := 0) (x_tinit1 l hb h1 h2 hr) dX3_init_5 q140 q96 q200 q139 rfl hs_X1_init (by decide) rfl (Nat.le_of_ble_eq_true rfl) (fun _ h => h) (okl_c (ok_r (by unfold fT; decide)) okl_0) oks_0 ⟨Nat.le_refl _, Nat.le_refl _⟩ ?_
  exact V_vreturn dX3_init_8 rfl hQ

