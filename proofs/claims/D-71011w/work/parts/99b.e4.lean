/-! the two sides at the start; what a call keeps on the model's side -/
set_option maxRecDepth 100000
set_option maxHeartbeats 200000
theorem mZ (r i : Nat) : mZero r i = 0 := rfl
theorem bd_0 (n : Nat) : bd 0 n := ⟨0, Nat.zero_le _, rfl⟩
theorem MI_zero : MI mZero := ⟨⟨bd_0 _, bd_0 _⟩, fun _ _ => bd_0 _, bd_0 _, fun _ _ => bd_0 _, fun _ _ => bd_0 _, bd_0 _, fun _ _ => bd_0 _, bd_0 _, fun _ _ => bd_0 _, bd_0 _, fun _ _ => bd_0 _, fun _ _ => bd_0 _, fun _ _ => bd_0 _⟩
def FI (G : xSt) : Prop := F40 G ∧ IV G
theorem FI_zero : FI mZero := ⟨fun _ _ => bd_0 _, fun s q _ _ => by
  rw [show fm mZero s = 0 from if_pos rfl, show mZero 42 (60 * s + q) = 0 from rfl]
  decide +kernel⟩
theorem cnt_bl {q : Nat} : cnt XBl q = 0 := by
  unfold cnt
  rw [XBl_0 (by have := @szr_b q; omega)]
  decide +kernel
theorem std_bl {q : Nat} : std XBl q = 0 := by
  unfold std
  rw [XBl_0 (by decide)]
  decide +kernel
theorem XR_bl : XR mZero XBl := by
  have z : ∀ {r i : Nat}, r ≠ 45 → XBl r i = 0 := fun h => XBl_0 h
  have b0 : ∀ {r i n : Nat}, r ≠ 45 → bd (XBl r i) n := fun h => by rw [z h]; exact bd_0 _
  have n1 : ∀ {r i : Nat}, r ≠ 45 → ¬ XBl r i = nI 1 := fun h e => by rw [z h] at e; exact absurd e (by decide +kernel)
  refine XY_XR MI_zero ⟨⟨⟨fun q _ => by rw [cnt_bl]; omega, by rw [cnt_bl]; omega⟩, fun q hq => ⟨hq, ?_, by rw [cnt_bl]; omega, fun _ => cnt_bl⟩, b0 (by decide), b0 (by decide), fun _ _ => b0 (by decide), .inl (z (by decide)), .inl (z (by decide)), fun q _ _ => by rw [std_bl, cnt_bl], b0 (by decide), b0 (by decide), b0 (by decide), b0 (by decide), b0 (by decide), b0 (by decide)⟩, fun j hj => ?_, z (by decide), fun i hi => ?_, by rw [std_bl, cnt_bl], fun e => absurd e (n1 (by decide)), fun e => absurd e (n1 (by decide)), fun e => absurd e (n1 (by decide)), fun e => absurd e (n1 (by decide)), ⟨rfl, rfl, z (by decide), z (by decide)⟩, z (by decide), fun i _ => .inl (z (by decide))⟩
  · rw [cnt_bl, z (by have := @szr_b q; omega)]
    rfl
  · funext i
    exact z (by unfold cj at hj; omega)
  · rw [cnt_bl] at hi
    exact absurd hi (Nat.not_lt_zero _)
/-- sheets' forms and items are as they were -/
def K4 (G H : xSt) : Prop := H 40 = G 40 ∧ H 41 = G 41 ∧ H 42 = G 42
theorem K4_rf (G : xSt) : K4 G G := ⟨rfl, rfl, rfl⟩
theorem K4_tr {A B C : xSt} (h : K4 A B) (g : K4 B C) : K4 A C := ⟨g.1.trans h.1, g.2.1.trans h.2.1, g.2.2.trans h.2.2⟩
theorem K4_wr {G : xSt} {j i : Nat} {v : Int32} (h : j < 40 ∨ 42 < j) : K4 G (mwr G j i v) := ⟨mwr_R _ _ _ (by omega), mwr_R _ _ _ (by omega), mwr_R _ _ _ (by omega)⟩
theorem K4_w {A G : xSt} {j i : Nat} {v : Int32} (h : j < 40 ∨ 42 < j) (g : K4 A G) : K4 A (mwr G j i v) := K4_tr g (K4_wr h)
theorem K4_FI {G H : xSt} (k : K4 G H) (h : FI G) : FI H := ⟨fun s hs => by rw [k.1]; exact h.1 s hs, fun s q hs hq => by
  rw [show fm H s = fm G s from by unfold fm; rw [k.1], k.2.2]
  exact h.2 s q hs hq⟩
theorem CO_K4 {G H : xSt} (c : CO G H) : K4 G H := ⟨c.2 40 (.inr (.inr (by omega))), c.2 41 (.inr (.inr (by omega))), c.2 42 (.inr (.inr (by omega)))⟩
theorem if2 {α : Type} {R : xSt → Prop} {c : Prop} [Decidable c] {a b : α × xSt} (ha : R a.2) (hb : R b.2) : R (if c then a else b).2 := by
  by_cases z : c
  · rw [if_pos z]; exact ha
  · rw [if_neg z]; exact hb
theorem if2p {α : Type} {R : xSt → Prop} {c : Prop} [Decidable c] {a b : α × xSt} (ha : c → R a.2) (hb : R b.2) : R (if c then a else b).2 := by
  by_cases z : c
  · rw [if_pos z]; exact ha z
  · rw [if_neg z]; exact hb
theorem if2n {α : Type} {R : xSt → Prop} {c : Prop} [Decidable c] {a b : α × xSt} (ha : R a.2) (hb : ¬ c → R b.2) : R (if c then a else b).2 := by
  by_cases z : c
  · rw [if_pos z]; exact ha
  · rw [if_neg z]; exact hb z
section COS
variable {G : xSt}
theorem c_rdI (h : MI G) {k m : Int32} (c : nI 0 ≤ k ∧ k ≤ readsF G 2 0 - nI 1) : vN k < 8 := by
  obtain ⟨j, rfl, -, hj⟩ := bd_in (n := 8) (by decide) (RD_p h).1 c
  rw [vN_nI (by omega)]
  exact hj
theorem c_person (h : MI G) (k what : Int32) : CO G (personP k what G).2 := by
  unfold personP
  refine if2 (R := CO G) ?_ ?_
  · refine if2 (R := CO G) ?_ ?_
    · first | dsimp only | skip
      exact CO_rd h
    · first | dsimp only | skip
      exact CO_rd h
  · first | dsimp only | skip
    exact CO_rd h
theorem c_promise (h : MI G) (k what : Int32) : CO G (promiseP k what G).2 := by
  unfold promiseP
  refine if2 (R := CO G) ?_ ?_
  · refine if2 (R := CO G) ?_ ?_
    · first | dsimp only | skip
      exact CO_rd h
    · first | dsimp only | skip
      exact CO_rd h
  · first | dsimp only | skip
    exact CO_rd h
theorem c_fault (h : MI G) (t : Int32) : CO G (faultF t G).2 := by
  unfold faultF
  refine if2 (R := CO G) ?_ ?_
  · first | dsimp only | skip
    exact CO_rd h
  · first | dsimp only | skip
    exact CO_rf h
theorem CO_rdRT (h : MI G) : CO G (RT (readsF G)) := CO_tr (CO_rd h) (CO_RT (CO_rd h).1)
theorem c_coat (h : MI G) (d k what : Int32) : CO G (coatP d k what G).2 := by
  unfold coatP
  refine if2 (R := CO G) ?_ ?_
  · refine if2 (R := CO G) ?_ ?_
    · refine if2 (R := CO G) ?_ ?_
      · first | dsimp only | skip
        exact CO_rdRT h
      · first | dsimp only | skip
        exact CO_rd h
    · first | dsimp only | skip
      exact CO_rd h
  · first | dsimp only | skip
    exact CO_rf h
theorem c_stands (h : MI G) (d p : Int32) : CO G (standsP d p G).2 := by
  unfold standsP
  refine if2 (R := CO G) ?_ ?_
  · refine if2 (R := CO G) ?_ ?_
    · first | dsimp only | skip
      exact CO_rdRT h
    · first | dsimp only | skip
      exact CO_rd h
  · first | dsimp only | skip
    exact CO_rf h
theorem c_neat (h : MI G) (d : Int32) : CO G (neatP d G).2 := by
  unfold neatP
  refine if2 (R := CO G) ?_ ?_
  · first | dsimp only | skip
    exact CO_RT h
  · first | dsimp only | skip
    exact CO_rf h
theorem c_naked (h : MI G) (d : Int32) : CO G (nakedP d G).2 := by
  unfold nakedP
  refine if2 (R := CO G) ?_ ?_
  · first | dsimp only | skip
    exact CO_RT h
  · first | dsimp only | skip
    exact CO_rf h
theorem c_long (h : MI G) (d : Int32) : CO G (longP d G).2 := by
  unfold longP
  refine if2 (R := CO G) ?_ ?_
  · first | dsimp only | skip
    exact CO_RT h
  · first | dsimp only | skip
    exact CO_rf h
theorem c_swear (h : MI G) (k day : Int32) : CO G (swearP k day G).2 := by
  unfold swearP
  refine if2p (R := CO G) (fun z => ?_) ?_
  · refine if2 (R := CO G) ?_ ?_
    · first | dsimp only | skip
      exact CO_tr (CO_rd h) (CO_sw (CO_rd h).1 (c_rdI (m := 0) h z))
    · first | dsimp only | skip
      exact CO_rd h
  · first | dsimp only | skip
    exact CO_rd h
theorem c_keep (h : MI G) (d what : Int32) : CO G (keepP d what G).2 := by
  unfold keepP
  refine if2 (R := CO G) ?_ ?_
  · refine if2 (R := CO G) ?_ ?_
    · first | dsimp only | skip
      exact CO_kb h
    · first | dsimp only | skip
      exact CO_rf h
  · first | dsimp only | skip
    exact CO_rf h
theorem c_due (h : MI G) (p what : Int32) : CO G (dueP p what G).2 := by
  unfold dueP
  refine if2 (R := CO G) ?_ ?_
  · refine if2 (R := CO G) ?_ ?_
    · first | dsimp only | skip
      exact CO_tr (CO_rd h) (CO_du (CO_rd h).1)
    · first | dsimp only | skip
      exact CO_rd h
  · first | dsimp only | skip
    exact CO_rd h
theorem c_hush (h : MI G) (i : Int32) : CO G (hushP i G).2 := by
  unfold hushP
  refine if2 (R := CO G) ?_ ?_
  · first | dsimp only | skip
    exact CO_hu h
  · first | dsimp only | skip
    exact CO_rf h
theorem c_never (h : MI G) : CO G (neverP G).2 := by
  unfold neverP
  exact CO_nv h
theorem c_was (h : MI G) (k what : Int32) : CO G (wasP k what G).2 := by
  unfold wasP
  refine if2 (R := CO G) ?_ ?_
  · refine if2 (R := CO G) ?_ ?_
    · first | dsimp only | skip
      exact CO_tr (CO_rd h) (CO_was (CO_rd h).1 _ what)
    · first | dsimp only | skip
      exact CO_rd h
  · first | dsimp only | skip
    exact CO_rd h
theorem c_ask (h : MI G) (k : Int32) : CO G (askP k G).2 := by
  unfold askP
  refine if2 (R := CO G) ?_ ?_
  · first | dsimp only | skip
    exact CO_tr (CO_rd h) (CO_ak (CO_rd h).1)
  · first | dsimp only | skip
    exact CO_rd h
theorem c_word (h : MI G) (c k day what : Int32) : CO G (wordP c k day what G).2 := by
  unfold wordP
  refine if2 (R := CO G) ?_ ?_
  · refine if2 (R := CO G) ?_ ?_
    · refine if2 (R := CO G) ?_ ?_
      · refine if2 (R := CO G) ?_ ?_
        · first | dsimp only | skip
          exact CO_tr (CO_rd h) (CO_wo (CO_rd h).1)
        · first | dsimp only | skip
          exact CO_rd h
      · first | dsimp only | skip
        exact CO_rd h
    · first | dsimp only | skip
      exact CO_rd h
  · first | dsimp only | skip
    exact CO_rf h
theorem c_year (h : MI G) (seed n what : Int32) : CO G (yearP seed n what G).2 := by
  unfold yearP
  refine if2p (R := CO G) (fun z => ?_) ?_
  · refine if2 (R := CO G) ?_ ?_
    · first | dsimp only | skip
      exact CO_yr h (by obtain ⟨j, hj, rfl⟩ := bd_I (by decide) z; rw [vN_nI (by omega)]; exact hj)
    · first | dsimp only | skip
      exact CO_rf h
  · first | dsimp only | skip
    exact CO_rf h
/-! those that change the core keep the sheets -/
theorem k_type (t b : Int32) : K4 G (typeF t b G).2 := by
  unfold typeF
  refine if2 (R := K4 G) ?_ ?_
  · refine if2 (R := K4 G) ?_ ?_
    · first | dsimp only | skip
      unfold typeT
      refine if2 (R := K4 G) (K4_rf G) ?_
      dsimp only
      exact K4_w (by omega) (K4_wr (by omega))
    · first | dsimp only | skip
      exact K4_rf G
  · first | dsimp only | skip
    exact K4_rf G
theorem k_wipe (t : Int32) : K4 G (wipeF t G).2 := by
  unfold wipeF
  refine if2 (R := K4 G) ?_ ?_
  · first | dsimp only | skip
    exact K4_wr (by omega)
  · first | dsimp only | skip
    exact K4_rf G
theorem k_undo (t : Int32) : K4 G (undoF t G).2 := by
  unfold undoF
  refine if2 (R := K4 G) ?_ ?_
  · first | dsimp only | skip
    unfold undoT
    refine if2 (R := K4 G) (K4_rf G) ?_
    dsimp only
    exact K4_wr (by omega)
  · first | dsimp only | skip
    exact K4_rf G
theorem k_keeping (d p : Int32) : K4 G (keepingP d p G).2 := by
  unfold keepingP
  refine if2 (R := K4 G) ?_ ?_
  · refine if2 (R := K4 G) ?_ ?_
    · refine if2 (R := K4 G) ?_ ?_
      · first | dsimp only | skip
        exact K4_rf G
      · first | dsimp only | skip
        unfold keepingT
        exact K4_w (by omega) (K4_w (by omega) (K4_wr (by omega)))
    · first | dsimp only | skip
      exact K4_rf G
  · first | dsimp only | skip
    exact K4_rf G
theorem k_add3 {c f cap lo hi : Nat} (hc : c < 38) (hf : f < 37) (d k m : Int32) : K4 G (add3P c f cap lo hi d k m G).2 := by
  unfold add3P
  refine if2 (R := K4 G) ?_ ?_
  · refine if2 (R := K4 G) ?_ ?_
    · refine if2 (R := K4 G) ?_ ?_
      · refine if2 (R := K4 G) ?_ ?_
        · first | dsimp only | skip
          exact K4_rf G
        · first | dsimp only | skip
          unfold add3
          exact K4_w (by omega) (K4_w (by omega) (K4_w (by omega) (K4_wr (by omega))))
      · first | dsimp only | skip
        exact K4_rf G
    · first | dsimp only | skip
      exact K4_rf G
  · first | dsimp only | skip
    exact K4_rf G
theorem k_back (w : Int32) : K4 G (backP w G).2 := by
  unfold backP
  refine if2 (R := K4 G) ?_ ?_
  · refine if2 (R := K4 G) ?_ ?_
    · first | dsimp only | skip
      exact K4_rf G
    · first | dsimp only | skip
      unfold backS
      exact K4_w (by omega) (K4_w (by omega) (K4_wr (by omega)))
  · first | dsimp only | skip
    exact K4_rf G
theorem k_forget : K4 G (forgetP G).2 := by
  unfold forgetP
  dsimp only
  exact K4_wr (by omega)
theorem k_meets (n : Nat) : K4 G (meetsF n G).2 := by
  unfold meetsF
  dsimp only
  exact K4_wr (by omega)
theorem k_rdK (s : Nat) : ∀ f n (S : xSt), K4 G S → K4 G (rdK s f n S).2
  | 0, _, _, h => h
  | f + 1, n, S, h => by
    rw [rdK_s]
    have k := K4_tr h (k_keeping (G := S) (S 42 (60 * s + 2 * n)) (S 42 (60 * s + 2 * n + 1)))
    exact if2 (R := K4 G) h (if2 (R := K4 G) k (k_rdK s f _ _ k))
theorem k_read (s : Int32) : K4 G (readP s G).2 := by
  unfold readP
  refine if2 (R := K4 G) ?_ ?_
  · refine if2 (R := K4 G) ?_ ?_
    · first | dsimp only | skip
      exact k_meets 1
    · first | dsimp only | skip
      exact k_rdK _ _ _ _ (K4_rf G)
  · first | dsimp only | skip
    exact K4_rf G
theorem k_lose (s : Int32) : K4 G (loseP s G).2 := by
  unfold loseP
  refine if2 (R := K4 G) ?_ ?_
  · refine if2 (R := K4 G) ?_ ?_
    · first | dsimp only | skip
      exact k_meets 1
    · first | dsimp only | skip
      exact K4_wr (by omega)
  · first | dsimp only | skip
    exact K4_rf G
theorem k_get (s form i : Int32) : K4 G (getP s form i G).2 := by
  unfold getP
  refine if2 (R := K4 G) ?_ ?_
  · refine if2 (R := K4 G) ?_ ?_
    · refine if2 (R := K4 G) ?_ ?_
      · first | dsimp only | skip
        exact K4_rf G
      · first | dsimp only | skip
        exact K4_wr (by omega)
    · first | dsimp only | skip
      exact K4_rf G
  · first | dsimp only | skip
    exact K4_rf G
/-! sheets -/
theorem fi_lays (h : FI G) {s i : Nat} (v : Int32) (hs : s < 4) (hi : i < 60) : FI (laysF s i v G) := by
  unfold laysF
  have e : ∀ s, fm (mwr G 42 (60 * s + i) (lyV (G 40 s) v)) = fm G := fun s => by funext q; unfold fm; rw [mwr_R _ _ _ (by decide)]
  have e2 : fm (mwr G 42 (60 * s + i) (lyV (G 40 s) v)) = fm G := by funext q; unfold fm; rw [mwr_R _ _ _ (by decide)]
  refine ⟨fun q hq => by rw [mwr_R _ _ _ (by decide)]; exact h.1 q hq, fun q j hq hj => ?_⟩
  rw [e2]
  by_cases z : 60 * q + j = 60 * s + i
  · have z1 : q = s := by omega
    subst z1
    rw [z, mwr_s, lyV_fm]
    exact fits_ly _ _
  · rw [mwr_q _ _ _ _ z]
    exact h.2 q j hq hj
theorem fi_put (hM : MI G) (h : FI G) (s form i v : Int32) : FI (putP s form i v G).2 := by
  unfold putP
  refine if2p (R := FI) (fun z => ?_) (by dsimp only; exact h)
  refine if2 (R := FI) ?_ (by dsimp only; exact h)
  refine if2p (R := FI) (fun c => ?_) (K4_FI (k_meets _) h)
  obtain ⟨q, hq, rfl⟩ := bd_I (by decide) z
  rw [vN_nI (by omega)] at c
  obtain ⟨j, e, hj⟩ := lack0 (hM.2.2.2.2.2.2.2.2.2.2.2.2 q (by omega)) c
  dsimp only
  rw [e, vN_nI (by omega), vN_nI (by omega)]
  exact fi_lays h v (by omega) hj
theorem fi_sheet (h : FI G) (s form n : Int32) : FI (sheetP s form n G).2 := by
  unfold sheetP
  refine if2p (R := FI) (fun z => ?_) (by dsimp only; exact h)
  refine if2p (R := FI) (fun c => ?_) (by dsimp only; exact h)
  refine if2 (R := FI) ?_ (by dsimp only; exact h)
  refine if2 (R := FI) ?_ (K4_FI (k_meets _) h)
  obtain ⟨q, hq, rfl⟩ := bd_I (by decide) z
  obtain ⟨f, hf, rfl⟩ := bd_I (by decide) c
  dsimp only
  rw [vN_nI (by omega)]
  obtain ⟨t1, t2, t3⟩ := @sheetT_s q (nI f) n G
  have fo : ∀ s, s ≠ q → sheetT q (nI f) n G 40 s = G 40 s := fun s hs => sheetT_o (by omega) (by omega)
  have fz : ∀ j, j < 60 → sheetT q (nI f) n G 42 (60 * q + j) = nI 0 := fun j hj => sheetT_z hj
  have fq : ∀ s j, s ≠ q → j < 60 → sheetT q (nI f) n G 42 (60 * s + j) = G 42 (60 * s + j) := fun s j hs hj => sheetT_o (by omega) (by omega)
  generalize sheetT q (nI f) n G = Z at *
  refine ⟨fun s hs => ?_, fun s j hs hj => ?_⟩
  · by_cases e : s = q
    · rw [e, t2]; exact ⟨f, hf, rfl⟩
    · rw [fo s e]; exact h.1 s hs
  · by_cases e : s = q
    · subst e
      rw [fz j hj]
      rcases ft_3 (fm Z s) with y | y | y <;> rw [y] <;> decide +kernel
    · rw [fq s j e hj, show fm Z s = fm G s from by unfold fm; rw [fo s e]]
      exact h.2 s j hs hj
theorem fi_wrI {k s : Nat} (hs : s < 4) : ∀ j i (S : xSt), i + j ≤ 60 → FI S → FI (itF (wrI k s) j i S)
  | 0, _, _, _, h => h
  | j + 1, i, S, hij, h => by
    have h2 : FI (wrI k s i S) := by unfold wrI; exact fi_lays h _ hs (by omega)
    exact fi_wrI hs j (i + 1) _ (by omega) h2
theorem fi_write (hM : MI G) (h : FI G) (k s : Int32) : FI (writeP k s G).2 := by
  have h1 := K4_FI (CO_K4 (CO_rd hM)) h
  have h2 := K4_FI (CO_K4 (CO_rdRT hM)) h
  unfold writeP
  generalize RT (readsF G) = Z at h2 ⊢
  generalize readsF G = Y at h1 ⊢
  refine if2 (R := FI) ?_ (by dsimp only; exact h1)
  refine if2p (R := FI) (fun z => ?_) (by dsimp only; exact h1)
  refine if2 (R := FI) (K4_FI (k_meets 1) h1) ?_
  obtain ⟨q, hq, rfl⟩ := bd_I (by decide) z
  rw [vN_nI (by omega)]
  unfold writeT
  dsimp only
  exact fi_wrI (by omega) _ _ _ (by omega) h2
theorem fi_copyT (h : FI G) {s i t j n : Nat} (hs : s < 4) (ht : t < 4) (hi : i + n ≤ 60) (hj : j + n ≤ 60) (he : G 40 s = G 40 t) : FI (copyT s i t j n G) := by
  obtain ⟨v1, v2⟩ := @copyT_v s i t j n G
  have e : fm (copyT s i t j n G) = fm G := by funext q; unfold fm; rw [v2 40 (by decide) (by decide)]
  have es : fm G s = fm G t := by unfold fm; rw [he]
  refine ⟨fun q hq => by rw [v2 40 (by decide) (by decide)]; exact h.1 q hq, fun q k hq hk => ?_⟩
  rw [e, v1]
  unfold cp42
  by_cases z : 60 * t + j ≤ 60 * q + k ∧ 60 * q + k < 60 * t + j + n
  · have z1 : q = t := by omega
    subst z1
    rw [if_pos z, ← es]
    have := h.2 s (i + (60 * q + k - (60 * q + j))) hs (by omega)
    rw [← Nat.add_assoc] at this
    exact this
  · rw [if_neg z]
    exact h.2 q k hq hk
theorem fi_copyR (hM : MI G) (h : FI G) {s t : Nat} (i j n : Int32) (hs : s < 4) (ht : t < 4) (he : G 40 s = G 40 t) : FI (copyR s t i j n G).2 := by
  unfold copyR
  refine if2n (R := FI) (K4_FI (k_meets 2) h) (fun c1 => ?_)
  refine if2n (R := FI) (K4_FI (k_meets 2) h) (fun c2 => ?_)
  refine if2n (R := FI) (K4_FI (k_meets 2) h) (fun c3 => ?_)
  refine if2n (R := FI) (K4_FI (k_meets 2) h) (fun c4 => ?_)
  refine if2p (R := FI) (fun c5 => ?_) (K4_FI (k_meets 2) h)
  obtain ⟨a, ha, rfl⟩ := nI_of c1
  obtain ⟨b, hb, rfl⟩ := nI_of c2
  obtain ⟨m, hm, rfl⟩ := nI_of c3
  obtain ⟨y, hy, ey⟩ := hM.2.2.2.2.2.2.2.2.2.2.2.2 s hs
  obtain ⟨z, hz, ez⟩ := hM.2.2.2.2.2.2.2.2.2.2.2.2 t ht
  rw [ey] at c4
  rw [ez] at c5
  have q1 := cp_nle ha hm (by omega) c4
  have q2 := cp_le hb hm (by omega) c5
  dsimp only
  rw [vN_nI ha, vN_nI hb, vN_nI hm]
  exact fi_copyT h hs ht (by omega) (by omega) he
theorem fi_copy (hM : MI G) (h : FI G) (s i t j n : Int32) : FI (copyP s i t j n G).2 := by
  unfold copyP
  refine if2p (R := FI) (fun a => ?_) (by dsimp only; exact h)
  refine if2p (R := FI) (fun b => ?_) (by dsimp only; exact h)
  refine if2 (R := FI) (K4_FI (k_meets 1) h) ?_
  refine if2 (R := FI) (K4_FI (k_meets 1) h) ?_
  refine if2p (R := FI) (fun c => ?_) (K4_FI (k_meets 4) h)
  obtain ⟨p, hp, rfl⟩ := bd_I (by decide) a
  obtain ⟨q, hq, rfl⟩ := bd_I (by decide) b
  rw [vN_nI (by omega), vN_nI (by omega)] at c
  rw [vN_nI (by omega), vN_nI (by omega)]
  exact fi_copyR hM h i j n (by omega) (by omega) c
end COS

