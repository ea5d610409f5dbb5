/-! PromiseTailor's side: plans over what was told otherwise -/
set_option maxRecDepth 100000
section
variable {l : Launch} {M : xM} {S : xS} {pc : Nat} {ls : List (Option Value)} {st : List Value} {w : xW} {k n : Nat}
theorem V_putfN {C : String} {T : u_T} {ty : Nat → FieldType} {N ci i index a : Nat} {fs : List Value} {v : Value} {host : String} (hK : xCls ci C T ty N) (hd : decode M.2.1 pc = .ok (.putfield index, 3)) (hi : i < N) (hlk : Cond.fieldLinkNest M.1 index (T i).1 (T i).2.1 (T i).2.2.1 host ∈ xNw) (hfin : (T i).2.2.2 = false) (hw : w a = some (.inr (ci, true, fs))) (hl : i < fs.length)
    (hnr : ∀ ad, narrow (ty i) (xv ad v) = xv ad v) (hfit : ∀ ad, fits (ty i) (xv ad v) = true) (kk : V l M S (pc + 3) ls st (upw w a (.inr (ci, true, fs.set i v))) k n) : V l M S pc ls (v :: .ref a :: st) w k n := by
  intro p e s m args below meth c H locs lsA D ad0 ad A cells slots hC hN hL hk hn
  have hts := hC.2.2.2.2.2.2.1
  obtain ⟨r, cell, q1, q2, q3, q4, q5, q6, q7⟩ := (hN.1.1 _ _ hw).1
  cases q1.symm.trans hK.1
  have hKa := hC.2.2.2.2.2.2.2.2.2.2.1
  obtain ⟨hS, hfc, kC, hkC, hkind⟩ := hKa.1 ci _ hK.1
  obtain ⟨cf, kf, fi, f, hf, hsl⟩ := hS i hi
  have hlay := hts _ (hK.2.1 _ (u_in_lay hi))
  unfold u_lay at hlay
  rw [if_neg (by rw [hfin]; decide)] at hlay
  have hst := (u_facts hfc hkC (u_lays hts hK.2.1 hi) hf).1
  have h6 := u_store hfc hkC hkind hlay hf (hK.2.2.1 i hi) (hnr ad) (hfit ad)
  refine va_WputK hC.1 hC.2.1 (f := f) hC.2.2.2.2.2.1 (va_Nw.use rfl (hC.2.2.2.2.2.2.2.2.2.2.2.1.1 _ hlk)) hf hst (by rw [q3]; exact h6) q2 (q6 rfl) (by rw [hsl]; exact k2_hasslot (q7 i hi)) rfl rfl hd fun H' e1 e2 e3 => ?_
  rw [hsl] at e1 ⊢
  exact kk p e s m args below meth c H' _ lsA D ad0 ad A cells slots hC (hN.set hw rfl (xat_put hK.1 q3 q4 q5 q6 q7 (xapart hts hK hKa) hi hl e1) e2 e3) hL hk hn
theorem Vx_due {X : xSt} {index p : Nat} {v : Int32} {host : String} (hd : decode M.2.1 pc = .ok (.putfield index, 3)) (hlk : Cond.fieldLinkNest M.1 index (TX7 3).1 (TX7 3).2.1 (TX7 3).2.2.1 host ∈ xNw) (hp : p < 64) (hs : p < std X 1) (kk : V l M S (pc + 3) ls st (wX (mwr X 9 p v)) k n) : V l M S pc ls (.int v :: .ref (1152 + p) :: st) (wX X) k n := by
  refine V_putfN (i := 3) k_X7 hd (by decide) hlk rfl (wX_pro X hp hs) (Nat.le_of_ble_eq_true rfl) (fun _ => rfl) (fun _ => rfl) ?_
  rw [wX_set (X' := mwr X 9 p v) rfl (show _ = some (Sum.inr (5, true, ([.int (X 6 p), .int (X 7 p), .int (X 8 p), .int (X 9 p)] : List Value).set 3 (.int v))) from (wX_pro (mwr X 9 p v) hp hs).trans (by rw [mwr_s, mwr_r _ _ _ _ (show 6 ≠ 9 by decide), mwr_r _ _ _ _ (show 7 ≠ 9 by decide), mwr_r _ _ _ _ (show 8 ≠ 9 by decide)]; rfl)) (fun n hn => by rw [dep_9]; exact hn)]
  exact kk
theorem Vx_size {X : xSt} {index p : Nat} {v : Int32} {host : String} (hd : decode M.2.1 pc = .ok (.putfield index, 3)) (hlk : Cond.fieldLinkNest M.1 index (TX8 1).1 (TX8 1).2.1 (TX8 1).2.2.1 host ∈ xNw) (hp : p < 64) (hs : p < std X 0) (kk : V l M S (pc + 3) ls st (wX (mwr X 4 p v)) k n) : V l M S pc ls (.int v :: .ref (1088 + p) :: st) (wX X) k n := by
  refine V_putfN (i := 1) k_X8 hd (by decide) hlk rfl (wX_per X hp hs) (Nat.le_of_ble_eq_true rfl) (fun _ => rfl) (fun _ => rfl) ?_
  rw [wX_set (X' := mwr X 4 p v) rfl (show _ = some (Sum.inr (4, true, ([.ref (soN (X 3 p)), .int (X 4 p)] : List Value).set 1 (.int v))) from (wX_per (mwr X 4 p v) hp hs).trans (by rw [mwr_s, mwr_r _ _ _ _ (show 3 ≠ 4 by decide)]; rfl)) (fun n hn => by rw [dep_4]; exact hn)]
  exact kk
theorem Vx_sort {X : xSt} {index p : Nat} {v : Int32} {host : String} (hd : decode M.2.1 pc = .ok (.putfield index, 3)) (hlk : Cond.fieldLinkNest M.1 index (TX8 0).1 (TX8 0).2.1 (TX8 0).2.2.1 host ∈ xNw) (hp : p < 64) (hs : p < std X 0) (kk : V l M S (pc + 3) ls st (wX (mwr X 3 p v)) k n) : V l M S pc ls (.ref (soN v) :: .ref (1088 + p) :: st) (wX X) k n := by
  refine V_putfN (i := 0) k_X8 hd (by decide) hlk rfl (wX_per X hp hs) (Nat.le_of_ble_eq_true rfl) (fun _ => rfl) (fun _ => rfl) ?_
  rw [wX_set (X' := mwr X 3 p v) rfl (show _ = some (Sum.inr (4, true, ([.ref (soN (X 3 p)), .int (X 4 p)] : List Value).set 0 (.ref (soN v)))) from (wX_per (mwr X 3 p v) hp hs).trans (by rw [mwr_s, mwr_r _ _ _ _ (show 4 ≠ 3 by decide)]; rfl)) (fun n hn => by rw [dep_3]; exact hn)]
  exact kk
end
def nb (r : Nat) : Prop := r < 3 ∨ r = 5 ∨ (9 < r ∧ r ≠ 38)
theorem BX_g {X Y : xSt} (h : ∀ r, nb r → Y r = X r) (hB : BX X) : BX Y := by
  have e3 : ∀ q, Y (szr q) = X (szr q) := fun q => h _ (by have := @szr_b q; unfold nb; omega)
  have e : ∀ q, cnt Y q = cnt X q := fun q => by unfold cnt; rw [e3]
  have e2 : ∀ q, std Y q = std X q := fun q => by unfold std; rw [h 54 (by unfold nb; omega)]
  unfold BX CB at *
  simp only [e, e2]
  refine ⟨hB.1, fun q hq => LQ_of (e3 q) (h 50 (by unfold nb; omega)) (hB.2.1 q hq), ?_⟩
  rw [h 0 (by unfold nb; omega), h 1 (by unfold nb; omega), h 47 (by unfold nb; omega), h 2 (by unfold nb; omega), h 5 (by unfold nb; omega), h 10 (by unfold nb; omega), h 13 (by unfold nb; omega), h 17 (by unfold nb; omega), h 34 (by unfold nb; omega)]
  exact hB.2.2
theorem XT_g {T X T' X' : xSt} (h : XT T X) (hX : ∀ r, nb r → X' r = X r) (hT : ∀ r, nb r → T' r = T r) (h6 : ∀ r, 5 < r → r < 10 → T' r (vN (T 5 0)) = T r (vN (T 5 0))) (hP : PV T') (hB : TB T') (h0 : X 47 0 = nI 1 ∧ sy0 T' X' ∨ X 47 0 = nI 0 ∧ pr0 T') (h1 : X 47 1 = nI 1 ∧ sy1 T' X' ∨ X 47 1 = nI 0 ∧ pr1 T') : XT T' X' := by
  have N : ∀ r, (r < 3 ∨ r = 5 ∨ (9 < r ∧ r ≠ 38)) → nb r := fun r z => z
  obtain ⟨a, b, c, d, -, -, -, -, f0, f1⟩ := h
  refine ⟨BX_g hX a, fun j hj => by rw [hX j (N _ (by omega)), hT j (N _ (by omega))]; exact b j hj, ?_, ?_, hP, hB, by rw [hX 47 (N _ (by omega))]; exact h0, by rw [hX 47 (N _ (by omega))]; exact h1, fl0_c (hX 0 (N _ (by omega))) (hX 1 (N _ (by omega))) (by rw [hX 47 (N _ (by omega))]) (by rw [hX 48 (N _ (by omega))]) f0, fl1_c (hX 0 (N _ (by omega))) (hX 1 (N _ (by omega))) (by rw [hX 47 (N _ (by omega))]) (by rw [hX 48 (N _ (by omega))]) f1⟩
  · have z := XK_of (Y := X') (hX 10 (N _ (by omega))) (hX 11 (N _ (by omega))) (hX 12 (N _ (by omega))) (hX 25 (N _ (by omega))) (hX 26 (N _ (by omega))) (hX 45 (N _ (by omega))) (hX 51 (N _ (by omega))) (hX 53 (N _ (by omega))) (by rw [hX 54 (N _ (by omega))]) c
    unfold XK at *
    rw [hT 22 (N _ (by omega)), hT 23 (N _ (by omega)), hT 24 (N _ (by omega)), hT 25 (N _ (by omega)), hT 26 (N _ (by omega))]
    exact z
  · have z := XO_of (Y := X') (hX 45 (N _ (by omega))) d
    unfold XO at *
    rw [hT 21 (N _ (by omega)), hT 5 (N _ (by omega)), hT 2 (N _ (by omega)), h6 6 (by decide) (by decide), h6 7 (by decide) (by decide), h6 8 (by decide) (by decide), h6 9 (by decide) (by decide)]
    exact z
theorem XT_9 {T X : xSt} {p : Nat} {v : Int32} (h : XT T X) (hf : X 47 1 = nI 1) (hp : p < vN (T 5 0)) : XT (mwr T 9 p v) (mwr X 9 p v) := by
  have N : ∀ {S : xSt} r, nb r → mwr S 9 p v r = S r := fun r z => mwr_R _ _ _ (by unfold nb at z; omega)
  have R : ∀ {S : xSt} r, r ≠ 9 → mwr S 9 p v r = S r := fun r z => mwr_R _ _ _ z
  refine XT_g h (fun r z => N r z) (fun r z => N r z) (fun r _ _ => mwr_q _ _ _ _ (by omega)) (PV_wr (by omega) h.2.2.2.2.1) ?_ ?_ (.inl ⟨hf, ?_⟩)
  · have z := h.2.2.2.2.2.1
    unfold TB at *
    rw [R 2 (by decide), R 3 (by decide), R 4 (by decide), R 5 (by decide), R 7 (by decide)]
    exact z
  · rcases h.2.2.2.2.2.2.1 with ⟨a, b⟩ | ⟨a, b⟩
    · refine .inl ⟨a, ?_⟩
      unfold sy0 at *
      rw [R 2 (by decide), R 3 (by decide), R 4 (by decide), R 2 (by decide), R 3 (by decide), R 4 (by decide)]
      exact b
    · exact .inr ⟨a, pr0_c (R 0 (by decide)) (R 1 (by decide)) (by rw [R 2 (by decide)]) (fun k _ => by rw [R 3 (by decide), R 4 (by decide)]; exact ⟨rfl, rfl⟩) b⟩
  · rcases h.2.2.2.2.2.2.2.1 with ⟨a, b⟩ | ⟨a, b⟩
    · unfold sy1 at *
      rw [R 5 (by decide), R 6 (by decide), R 7 (by decide), R 8 (by decide), R 5 (by decide), R 6 (by decide), R 7 (by decide), R 8 (by decide)]
      refine ⟨b.1, fun k hk => ⟨(b.2 k hk).1, (b.2 k hk).2.1, (b.2 k hk).2.2.1, ?_⟩⟩
      by_cases e : k = p
      · rw [e, mwr_s, mwr_s]
      · rw [mwr_q _ _ _ _ e, mwr_q _ _ _ _ e]; exact (b.2 k hk).2.2.2
    · rw [hf] at a; exact absurd a (by decide +kernel)
theorem XT_P {T X : xSt} {j k : Nat} {v : Int32} (hj : j = 3 ∨ j = 4) (h : XT T X) (hf : X 47 0 = nI 1) (hv : j = 3 ∧ bd v 2 ∨ j = 4 ∧ bd v 9) : XT (mwr T j k v) (mwr X j k v) := by
  have N : ∀ {S : xSt} r, nb r → mwr S j k v r = S r := fun r z => mwr_R _ _ _ (by unfold nb at z; omega)
  have R : ∀ {S : xSt} r, r ≠ 3 → r ≠ 4 → mwr S j k v r = S r := fun r z y => mwr_R _ _ _ (by omega)
  refine XT_g h (fun r z => N r z) (fun r z => N r z) (fun r a b => by rw [R r (by omega) (by omega)]) (PV_wr (by omega) h.2.2.2.2.1) ?_ (.inl ⟨hf, ?_⟩) ?_
  · have z := h.2.2.2.2.2.1
    refine ⟨fun i hi => ?_, fun q hq => ?_⟩
    · rw [R 2 (by decide) (by decide)] at hi
      have y := z.1 i hi
      rcases hv with ⟨rfl, b⟩ | ⟨rfl, b⟩
      · refine ⟨?_, ?_⟩
        · by_cases e : i = k
          · rw [e, mwr_s]; exact b
          · rw [mwr_q _ _ _ _ e]; exact y.1
        · rw [mwr_r _ _ _ _ (by decide)]; exact y.2
      · refine ⟨?_, ?_⟩
        · rw [mwr_r _ _ _ _ (by decide)]; exact y.1
        · by_cases e : i = k
          · rw [e, mwr_s]; exact b
          · rw [mwr_q _ _ _ _ e]; exact y.2
    · rw [R 5 (by decide) (by decide)] at hq
      rw [R 7 (by decide) (by decide)]
      exact z.2 q hq
  · rcases h.2.2.2.2.2.2.1 with ⟨a, b⟩ | ⟨a, b⟩
    · unfold sy0 at *
      rw [R 2 (by decide) (by decide), R 2 (by decide) (by decide)]
      refine ⟨b.1, fun i hi => ⟨?_, ?_⟩⟩
      · by_cases e : j = 3 ∧ i = k
        · rw [e.1, e.2, mwr_s, mwr_s]
        · by_cases e1 : j = 3
          · rw [mwr_q _ _ _ _ (fun z => e ⟨e1, z⟩), mwr_q _ _ _ _ (fun z => e ⟨e1, z⟩)]; exact (b.2 i hi).1
          · rw [mwr_r _ _ _ _ (by omega), mwr_r _ _ _ _ (by omega)]; exact (b.2 i hi).1
      · by_cases e : j = 4 ∧ i = k
        · rw [e.1, e.2, mwr_s, mwr_s]
        · by_cases e1 : j = 4
          · rw [mwr_q _ _ _ _ (fun z => e ⟨e1, z⟩), mwr_q _ _ _ _ (fun z => e ⟨e1, z⟩)]; exact (b.2 i hi).2
          · rw [mwr_r _ _ _ _ (by omega), mwr_r _ _ _ _ (by omega)]; exact (b.2 i hi).2
    · rw [hf] at a; exact absurd a (by decide +kernel)
  · rcases h.2.2.2.2.2.2.2.1 with ⟨a, b⟩ | ⟨a, b⟩
    · refine .inl ⟨a, ?_⟩
      unfold sy1 at *
      rw [R 5 (by decide) (by decide), R 6 (by decide) (by decide), R 7 (by decide) (by decide), R 8 (by decide) (by decide), R 9 (by decide) (by decide), R 5 (by decide) (by decide), R 6 (by decide) (by decide), R 7 (by decide) (by decide), R 8 (by decide) (by decide), R 9 (by decide) (by decide)]
      exact b
    · exact .inr ⟨a, pr1_c (R 0 (by decide) (by decide)) (R 1 (by decide) (by decide)) (by rw [R 5 (by decide) (by decide)]) (fun k _ => by rw [R 6 (by decide) (by decide), R 7 (by decide) (by decide), R 8 (by decide) (by decide), R 9 (by decide) (by decide)]; exact ⟨rfl, rfl, rfl, rfl⟩) b⟩
/-! how often coats can split at all -/
def sm (f : Nat → Nat) : Nat → Nat
  | 0 => 0
  | n + 1 => sm f n + f n
theorem sm_up (f : Nat → Nat) (w : Nat) : ∀ n, sm (fun k => if k = w then f k + 1 else f k) n = sm f n + (if w < n then 1 else 0)
  | 0 => rfl
  | n + 1 => by
    show sm (fun k => if k = w then f k + 1 else f k) n + (if n = w then f n + 1 else f n) = sm f n + f n + _
    rw [sm_up f w n]
    by_cases a : n = w
    · rw [if_pos a, if_neg (by omega), if_pos (by omega)]; omega
    · by_cases b : w < n
      · rw [if_neg a, if_pos b, if_pos (by omega)]; omega
      · rw [if_neg a, if_neg b, if_neg (by omega)]; omega
def TS (P n : Nat) (S : xSt) : Prop := ∃ f, (∀ k, k < P → S 28 k = nI (f k)) ∧ sm f P ≤ n
theorem TS_le {P n m : Nat} {S : xSt} (h : TS P n S) (g : n ≤ m) : TS P m S := by
  obtain ⟨f, a, b⟩ := h
  exact ⟨f, a, Nat.le_trans b g⟩
theorem TS_28 {P n : Nat} {S U : xSt} (h : TS P n S) (g : U 28 = S 28) : TS P n U := by
  unfold TS
  rw [g]
  exact h
theorem TS_up {P n : Nat} {S : xSt} (w : Nat) (h : TS P n S) : TS P (n + 1) (mwr S 28 w (S 28 w + nI 1)) := by
  obtain ⟨f, a, b⟩ := h
  refine ⟨fun k => if k = w then f k + 1 else f k, fun k hk => ?_, ?_⟩
  · show _ = nI (if k = w then f k + 1 else f k)
    by_cases e : k = w
    · subst e; rw [mwr_s, if_pos rfl, a k hk, nI_add]
    · rw [mwr_q _ _ _ _ e, if_neg e]; exact a k hk
  · rw [sm_up]
    by_cases e : w < P
    · rw [if_pos e]; omega
    · rw [if_neg e]; omega
theorem cutS_28 (k : Nat) (x : Int32) (S : xSt) : cutS k x S 28 = S 28 := mwr_R _ _ _ (by decide)
theorem mkF_28 (d : Int32) (p : Nat) (S : xSt) : mkF d p S 28 = S 28 := by
  unfold mkF mkS
  split
  · split
    · rfl
    · rw [cutS_28, mwr_R _ _ _ (by decide)]
  · rfl
theorem kpF_28 (d : Int32) (i : Nat) (S : xSt) : kpF d i S 28 = S 28 := by
  unfold kpF ktS
  split
  · split
    · rfl
    · split
      · rfl
      · split
        · rw [cutS_28, mwr_R _ _ _ (by decide)]
        · rfl
  · rfl
theorem lyF_28 (d : Int32) (i : Nat) (S : xSt) : lyF d i S 28 = S 28 := by
  unfold lyF
  split
  · split
    · rfl
    · split
      · rfl
      · rw [cutS_28]
  · rfl
theorem ltF_28 (d : Int32) (i : Nat) (S : xSt) : ltF d i S 28 = S 28 := by
  unfold ltF
  split
  · split
    · rfl
    · rw [cutS_28]
  · rfl
theorem TS_br (P : Nat) (d : Int32) : ∀ j i n S, TS P n S → TS P (n + j) (itF (brF d) j i S)
  | 0, _, _, _, h => h
  | j + 1, i, n, S, h => by
    show TS P (n + (j + 1)) (itF (brF d) j (i + 1) (brF d i S))
    have z : TS P (n + 1) (brF d i S) := by
      unfold brF brS brT
      split
      · split
        · exact TS_up _ (TS_28 h (by rw [cutS_28, mwr_R _ _ _ (by decide)]))
        · exact TS_le h (by omega)
      · exact TS_le h (by omega)
    have y := TS_br P d j (i + 1) (n + 1) _ z
    rw [show n + (j + 1) = n + 1 + j by omega]
    exact y
theorem TS_go (P d n : Nat) (S : xSt) (h : TS P n S) (h21 : vN (S 21 0) ≤ 11) : TS P (n + 11) (goesF d S) := by
  have a : TS P n (keepsF (nI d) (makesF (nI d) S)) := TS_28 h (by unfold keepsF makesF; rw [show ∀ j i U, itF (kpF (nI d)) j i U 28 = U 28 from fun j i U => by funext x; exact congrFun (itF_r (kpF_28 _) j i U) x, itF_r (mkF_28 _)])
  have e : (keepsF (nI d) (makesF (nI d) S)) 21 = S 21 := (fr_it (kpF_fr _) _ _ _ 21 (by omega)).trans (fr_it (mkF_fr _) _ _ _ 21 (by omega))
  have b : TS P (n + 11) (breaksF (nI d) (keepsF (nI d) (makesF (nI d) S))) := TS_le (TS_br P _ _ _ _ _ a) (by rw [e]; omega)
  refine TS_28 b ?_
  unfold goesF ressF recsF letsF liesF
  rw [itF_r (f := rsF d) (r := 28) (fun i S => mwr_R _ _ _ (by decide)), itF_r (f := rcF d) (r := 28) (fun i S => (mwr_R _ _ _ (by decide)).trans (mwr_R _ _ _ (by decide))), itF_r (ltF_28 _), itF_r (lyF_28 _)]
theorem TS_days (P : Nat) : ∀ j i n S, TS P n S → vN (S 21 0) ≤ 11 → TS P (n + 11 * j) (itF goesF j i S)
  | 0, _, _, _, h, _ => h
  | j + 1, i, n, S, h, g => by
    show TS P (n + 11 * (j + 1)) (itF goesF j (i + 1) (goesF i S))
    have y := TS_days P j (i + 1) (n + 11) _ (TS_go P i n S h g) (by rw [goesF_fr i S 21 (by omega)]; exact g)
    rw [show n + 11 * (j + 1) = n + 11 + 11 * j by omega]
    exact y
theorem st1_28 : ∀ j i S k, k < i + j → (k < i → S 28 k = nI 0) → itF st1F j i S 28 k = nI 0
  | 0, _, _, _, h, g => g (by omega)
  | j + 1, i, S, k, h, g => by
    show itF st1F j (i + 1) (st1F i S) 28 k = nI 0
    refine st1_28 j (i + 1) _ k (by omega) (fun z => ?_)
    unfold st1F
    by_cases e : k = i
    · rw [e, mwr_s]
    · rw [mwr_q _ _ _ _ e, mwr_r _ _ _ _ (by decide)]
      exact g (by omega)
theorem sm_0 : ∀ n, sm (fun _ => 0) n = 0
  | 0 => rfl
  | n + 1 => sm_0 n
theorem TS_runs (T : xSt) (h : vN (T 21 0) ≤ 11) : TS (vN (T 2 0)) 264 (runsF T) := by
  have e1 : st1sF T 21 = T 21 := fr_it (fun p S => fr_mwr (fr_mwr (fr_rf S) (by decide) _ _) (by decide) _ _) _ _ _ 21 (by omega)
  have e2 : st2sF (st1sF T) 21 = T 21 := (fr_it (fun p S => fr_mwr (fr_rf S) (by decide) _ _) _ _ _ 21 (by omega)).trans e1
  have a : TS (vN (T 2 0)) 0 (st2sF (st1sF T)) := by
    refine TS_28 (S := st1sF T) ⟨fun _ => 0, fun k hk => st1_28 _ 0 T k (by omega) (fun z => absurd z (by omega)), Nat.le_of_eq (sm_0 _)⟩ ?_
    unfold st2sF
    exact itF_r (fun p S => mwr_R _ _ _ (by decide)) _ _ _
  exact TS_days _ 24 0 0 _ a (by rw [e2]; exact h)
theorem ta_sm (S : xSt) (f : Nat → Nat) : ∀ j i, (∀ k, k < i + j → S 28 k = nI (f k)) → itA (taF S) j i (nI (sm f i)) = nI (sm f (i + j))
  | 0, _, _ => rfl
  | j + 1, i, h => by
    show itA (taF S) j (i + 1) (nI (sm f i) + S 28 i) = _
    rw [h i (by omega), nI_add, show i + (j + 1) = i + 1 + j by omega]
    exact ta_sm S f j (i + 1) (fun k hk => h k (by omega))
theorem tears_n {T : xSt} (h : PV T) : ∃ n, n ≤ 264 ∧ tearsF (runsF T) = nI n := by
  obtain ⟨f, a, b⟩ := TS_runs T (bd_v h.2.2.1 (by decide)).2
  refine ⟨sm f (vN (T 2 0)), b, ?_⟩
  unfold tearsF
  rw [runsF_fr T 2 (by omega)]
  have z := ta_sm (runsF T) f (vN (T 2 0)) 0 (fun k hk => a k (by omega))
  rw [Nat.zero_add] at z
  exact z
