/-! PromiseTailor's side: years, what ties -/
set_option maxRecDepth 100000
def yo (Y Z : xSt) : Prop := (∀ r, r ≠ 10 → r ≠ 45 → r ≠ 49 → r ≠ 50 → r ≠ 51 → r ≠ 52 → r ≠ 53 → Z r = Y r) ∧ (∀ i, i ≠ 0 → Z 10 i = Y 10 i) ∧ (∀ i, i ≠ 4 → Z 45 i = Y 45 i) ∧ (∀ q, q ≠ 2 → Z 50 q = Y 50 q) ∧ (Y 50 2 ≠ 0 → Z 50 2 ≠ 0)
theorem yo_rf (Y : xSt) : yo Y Y := ⟨fun _ _ _ _ _ _ _ _ => rfl, fun _ _ => rfl, fun _ _ => rfl, fun _ _ => rfl, fun h => h⟩
theorem yo_tr {A B C : xSt} (h : yo A B) (g : yo B C) : yo A C := ⟨fun r a b c d e f i => (g.1 r a b c d e f i).trans (h.1 r a b c d e f i), fun i z => (g.2.1 i z).trans (h.2.1 i z), fun i z => (g.2.2.1 i z).trans (h.2.2.1 i z), fun i z => (g.2.2.2.1 i z).trans (h.2.2.2.1 i z), fun z => g.2.2.2.2 (h.2.2.2.2 z)⟩
theorem yo_wr {Y : xSt} {j i : Nat} {v : Int32} (hj : (j = 10 ∧ i = 0) ∨ (j = 45 ∧ i = 4) ∨ j = 49 ∨ j = 51 ∨ j = 52 ∨ j = 53 ∨ (j = 50 ∧ i = 2 ∧ v ≠ 0)) : yo Y (mwr Y j i v) := by
  refine ⟨fun r a b c d e f g => mwr_R _ _ _ (by omega), fun q z => ?_, fun q z => ?_, fun q z => ?_, fun z => ?_⟩
  · by_cases e : j = 10
    · subst e; exact mwr_q _ _ _ _ (by omega)
    · exact mwr_r _ _ _ _ (by omega)
  · by_cases e : j = 45
    · subst e; exact mwr_q _ _ _ _ (by omega)
    · exact mwr_r _ _ _ _ (by omega)
  · by_cases e : j = 50
    · subst e; exact mwr_q _ _ _ _ (by omega)
    · exact mwr_r _ _ _ _ (by omega)
  · by_cases e : j = 50
    · subst e
      rcases hj with a | a | a | a | a | a | ⟨-, a, b⟩
      · omega
      · omega
      · omega
      · omega
      · omega
      · omega
      · rw [a, mwr_s]; exact b
    · rw [mwr_r _ _ _ _ (by omega)]; exact z
theorem yo_add (Y : xSt) : yo Y (addX 2 Y) := yo_tr (yo_wr (.inr (.inr (.inl rfl)))) (yo_tr (yo_wr (.inr (.inr (.inr (.inr (.inr (.inr ⟨rfl, rfl, nI1_0⟩))))))) (yo_wr (.inl ⟨rfl, rfl⟩)))
theorem yo_cl (Y : xSt) : yo Y (clX 2 Y) := yo_tr (yo_wr (.inr (.inr (.inl rfl)))) (yo_wr (.inl ⟨rfl, rfl⟩))
def YB (R X : xSt) : Prop := ∃ S Y, XT S Y ∧ AP R S ∧ yo Y X
theorem YB_0 {R S X : xSt} (h : XT S X) (a : AP R S) : YB R X := ⟨S, X, h, a, yo_rf X⟩
theorem YB_o {R X Y : xSt} (h : YB R X) (g : yo X Y) : YB R Y := by
  obtain ⟨S, Z, a, b, c⟩ := h
  exact ⟨S, Z, a, b, yo_tr c g⟩
theorem YB_XT {R T X : xSt} (h : YB R X) (ha : AP R T) (hL : LQ X 2) (hc : bd (X 10 0) 8) (hP : PV T) (hK : XK T X) (hO : XO T X) : XT T X := by
  obtain ⟨S, Z, a, b, c⟩ := h
  exact XT_y a (AP_tr (AP_sy b) ha) (fun r h1 _ _ h2 h3 h4 h5 h6 h7 => c.1 r h1 h2 h3 h4 h5 h6 h7) c.2.2.2.1 hL hc hP hK hO
def YF (q : Nat) (X Y : xSt) : Prop := (∀ r, (r < 2 ∨ (10 < r ∧ r < 25) ∨ (32 < r ∧ r < 45 ∧ r ≠ 38)) → Y r = X r) ∧ (∀ i, i ≠ 0 → Y 10 i = X 10 i) ∧ (Y 45 0 = -1 ∧ Y 45 2 = -1 ∧ Y 25 0 = nI 0 ∧ Y 26 0 = nI 0) ∧ std Y 2 = q ∧ ((X 47 0 = nI 1 → Y 47 0 = nI 1) ∧ (X 47 1 = nI 1 → Y 47 1 = nI 1)) ∧ (0 < q → Y 50 2 ≠ 0)
theorem YF_o {q : Nat} {X Y Z : xSt} (h : YF q X Y) (g : yo Y Z) : YF q X Z := by
  have R : ∀ r, r ≠ 10 ∧ r ≠ 45 ∧ r ≠ 49 ∧ r ≠ 50 ∧ r ≠ 51 ∧ r ≠ 52 ∧ r ≠ 53 → Z r = Y r := fun r ⟨a, b, c, d, e, f, i⟩ => g.1 r a b c d e f i
  refine ⟨fun r hr => (R r (by omega)).trans (h.1 r hr), fun i hi => (g.2.1 i hi).trans (h.2.1 i hi), ⟨(g.2.2.1 0 (by decide)).trans h.2.2.1.1, (g.2.2.1 2 (by decide)).trans h.2.2.1.2.1, by rw [R 25 (by omega)]; exact h.2.2.1.2.2.1, by rw [R 26 (by omega)]; exact h.2.2.1.2.2.2⟩, ?_, ?_, fun z => g.2.2.2.2 (h.2.2.2.2.2 z)⟩
  · unfold std
    rw [R 54 (by omega)]
    exact h.2.2.2.1
  · rw [R 47 (by omega)]
    exact h.2.2.2.2.1
theorem YF_FW {q : Nat} {X Y Z : xSt} (h : YF q X Y) (g : FW Y Z) : YF q X Z := by
  refine ⟨fun r hr => (g.1 r (by omega)).trans (h.1 r hr), fun i hi => by rw [g.1 10 (by omega)]; exact h.2.1 i hi, by rw [g.1 45 (by omega), g.1 25 (by omega), g.1 26 (by omega)]; exact h.2.2.1, ?_, ⟨fun z => g.2.2.2.2.1 (h.2.2.2.2.1.1 z), fun z => g.2.2.2.2.2 (h.2.2.2.2.1.2 z)⟩, fun z => ?_⟩
  · unfold std
    rw [g.2.1 54 2 (by decide) (by omega)]
    exact h.2.2.2.1
  · rw [g.2.1 50 2 (by decide) (by omega)]
    exact h.2.2.2.2.2 z
/-- aside: i old ones again, the told up to q -/
def YA (i q : Nat) (Y : xSt) : Prop := ∀ u, u < 8 → (u < i → Y 52 u = nI 1) ∧ (i ≤ u → u < q → Y 52 u = nI 2) ∧ (q ≤ u → Y 52 u = 0 ∨ Y 52 u = nI 1)
theorem YA_c {i q : Nat} {Y Z : xSt} (h : YA i q Y) (g : Z 52 = Y 52) : YA i q Z := by
  unfold YA
  rw [g]
  exact h
theorem YA_s {i q : Nat} {Y : xSt} (h : YA i q Y) (hi : i < q) : YA (i + 1) q (mwr Y 52 i (nI 1)) := by
  intro u hu
  have z := h u hu
  by_cases e : u = i
  · rw [e, mwr_s]
    exact ⟨fun _ => rfl, fun a => absurd a (by omega), fun a => absurd a (by omega)⟩
  · rw [mwr_q _ _ _ _ e]
    exact ⟨fun a => z.1 (by omega), fun a b => z.2.1 (by omega) b, z.2.2⟩
theorem LQ_2 {X : xSt} {i : Nat} (h : X 10 0 = nI i) (hi : i ≤ 10) (h5 : X 50 2 = 0 → i = 0) : cnt X 2 = i ∧ LQ X 2 := by
  have c : cnt X 2 = i := cnt_of h (by omega)
  exact ⟨c, by decide, by rw [c]; exact h, by rw [c]; exact hi, fun z => by rw [c]; exact h5 z⟩
def yrow (i : Nat) (T X : xSt) : Prop := ∀ u, u < i → T 23 u = X 51 (2 * u) ∧ T 24 u = X 51 (2 * u + 1) ∧ bd (X 51 (2 * u + 1)) 9
theorem yrow_c {i : Nat} {T U X Y : xSt} (h : yrow i T X) (hT : U 23 = T 23 ∧ U 24 = T 24) (hX : Y 51 = X 51) : yrow i U Y := by
  unfold yrow
  rw [hT.1, hT.2, hX]
  exact h
theorem yrow_s {i : Nat} {T X Y : xSt} {a b : Int32} (h : yrow i T X) (hb : bd b 9) (hY : Y 51 = (mwr (mwr X 51 (2 * i + 0) a) 51 (2 * i + 1) b) 51) : yrow (i + 1) (mwr (mwr T 23 i a) 24 i b) Y := by
  intro u hu
  rw [hY]
  by_cases e : u = i
  · subst e
    rw [mwr_r _ _ _ _ (show 23 ≠ 24 by decide), mwr_s, mwr_s, mwr_s, mwr_q _ _ _ _ (show 2 * u ≠ 2 * u + 1 by omega), Nat.add_zero, mwr_s]
    exact ⟨rfl, rfl, hb⟩
  · have z := h u (by omega)
    rw [mwr_r _ _ _ _ (show 23 ≠ 24 by decide), mwr_q _ _ _ _ e, mwr_q _ _ _ _ e, mwr_r _ _ _ _ (show 24 ≠ 23 by decide), mwr_q _ _ _ _ (show 2 * u ≠ 2 * i + 1 by omega), mwr_q _ _ _ _ (show 2 * u ≠ 2 * i + 0 by omega), mwr_q _ _ _ _ (show 2 * u + 1 ≠ 2 * i + 1 by omega), mwr_q _ _ _ _ (show 2 * u + 1 ≠ 2 * i + 0 by omega)]
    exact z
theorem XK_y {k : Nat} {T X : xSt} (hr : yrow k T X) (h10 : X 10 0 = nI k) (hc : cnt X 2 = k) (h22 : T 22 0 = nI k) (h53 : X 53 0 = nI 1) (d0 : X 45 0 = -1) (d1 : X 25 0 = T 25 0) (d2 : X 26 0 = T 26 0) : XK T X := by
  refine ⟨fun i hi => ?_, .inl ⟨d0, h22.trans h10.symm⟩, d1, d2, .inr h53⟩
  have z := hr i (by omega)
  unfold kdX koX
  rw [if_pos h53, if_pos h53]
  exact z
theorem wX_1472 (X : xSt) {x : Nat} (h : x < 64) : wX X (1472 + x) = none := by
  unfold wX
  rw [show (1472 + x) / 64 = 23 from by omega, show (1472 + x) % 64 = x from by omega]
  rfl
theorem yrK_fr (pr : Nat) : ∀ j i now S, (∀ r, r ≠ 23 → r ≠ 24 → yrK pr j i now S r = S r)
  | 0, _, _, _ => fun _ _ _ => rfl
  | j + 1, i, now, S => fun r a b => by
    rw [yrK_s, yrK_fr pr j (i + 1) _ _ r a b]
    unfold yrI
    rw [mwr_R _ _ _ b, mwr_R _ _ _ a]
