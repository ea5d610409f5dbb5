/-! PromiseTailor's side: plans, what ties them -/
set_option maxRecDepth 100000
def cj (j : Nat) : Prop := j < 2 ∨ (12 < j ∧ j < 21) ∨ (33 < j ∧ j < 38) ∨ (38 < j ∧ j < 43) ∨ j = 44
/-- two of the model's states say the same of what was told -/
def AP (R T : xSt) : Prop := (∀ j, cj j → T j = R j) ∧ T 2 0 = R 2 0 ∧ T 5 0 = R 5 0 ∧ (∀ k, k < vN (R 2 0) → T 3 k = R 3 k ∧ T 4 k = R 4 k) ∧ ∀ k, k < vN (R 5 0) → T 6 k = R 6 k ∧ T 7 k = R 7 k ∧ T 8 k = R 8 k ∧ T 9 k = R 9 k
theorem AP_rf (R : xSt) : AP R R := ⟨fun _ _ => rfl, rfl, rfl, fun _ _ => ⟨rfl, rfl⟩, fun _ _ => ⟨rfl, rfl, rfl, rfl⟩⟩
theorem AP_tr {A B C : xSt} (h : AP A B) (g : AP B C) : AP A C := ⟨fun j hj => (g.1 j hj).trans (h.1 j hj), g.2.1.trans h.2.1, g.2.2.1.trans h.2.2.1, fun k hk => ⟨((g.2.2.2.1 k (by rw [h.2.1]; exact hk)).1).trans (h.2.2.2.1 k hk).1, ((g.2.2.2.1 k (by rw [h.2.1]; exact hk)).2).trans (h.2.2.2.1 k hk).2⟩,
  fun k hk => by
    have a := g.2.2.2.2 k (by rw [h.2.2.1]; exact hk)
    have b := h.2.2.2.2 k hk
    exact ⟨a.1.trans b.1, a.2.1.trans b.2.1, a.2.2.1.trans b.2.2.1, a.2.2.2.trans b.2.2.2⟩⟩
theorem AP_sy {A B : xSt} (h : AP A B) : AP B A := ⟨fun j hj => (h.1 j hj).symm, h.2.1.symm, h.2.2.1.symm, fun k hk => ⟨(h.2.2.2.1 k (by rw [← h.2.1]; exact hk)).1.symm, (h.2.2.2.1 k (by rw [← h.2.1]; exact hk)).2.symm⟩,
  fun k hk => by
    have b := h.2.2.2.2 k (by rw [← h.2.2.1]; exact hk)
    exact ⟨b.1.symm, b.2.1.symm, b.2.2.1.symm, b.2.2.2.symm⟩⟩
theorem AP_fr {R T : xSt} (h : fr R T) : AP R T := ⟨fun j hj => h j (by unfold cj at hj; omega), by rw [h 2 (by omega)], by rw [h 5 (by omega)], fun k _ => by rw [h 3 (by omega), h 4 (by omega)]; exact ⟨rfl, rfl⟩, fun k _ => by rw [h 6 (by omega), h 7 (by omega), h 8 (by omega), h 9 (by omega)]; exact ⟨rfl, rfl, rfl, rfl⟩⟩
/-- numbers of plans, and a promise more -/
theorem AP_wr {R : xSt} {j i : Nat} {v : Int32} (h : 20 < j ∧ j < 34) : AP R (mwr R j i v) :=
  ⟨fun q hq => mwr_R _ _ _ (by unfold cj at hq; omega), mwr_r _ _ _ _ (by omega), mwr_r _ _ _ _ (by omega), fun k _ => ⟨mwr_r _ _ _ _ (by omega), mwr_r _ _ _ _ (by omega)⟩, fun k _ => ⟨mwr_r _ _ _ _ (by omega), mwr_r _ _ _ _ (by omega), mwr_r _ _ _ _ (by omega), mwr_r _ _ _ _ (by omega)⟩⟩
theorem AP_wm {R : xSt} {j i : Nat} {v : Int32} (h : 5 < j ∧ j < 10) (hi : vN (R 5 0) ≤ i) : AP R (mwr R j i v) :=
  ⟨fun q hq => mwr_R _ _ _ (by unfold cj at hq; omega), mwr_r _ _ _ _ (by omega), mwr_r _ _ _ _ (by omega), fun k _ => ⟨mwr_r _ _ _ _ (by omega), mwr_r _ _ _ _ (by omega)⟩, fun k hk => ⟨mwr_q _ _ _ _ (by omega), mwr_q _ _ _ _ (by omega), mwr_q _ _ _ _ (by omega), mwr_q _ _ _ _ (by omega)⟩⟩
def KD (R X : xSt) : Prop := (∀ i, i < cnt X 2 → R 23 i = kdX X i ∧ R 24 i = koX X i ∧ bd (koX X i) 9) ∧ R 22 0 = X 10 0 ∧ R 25 0 = nI 0 ∧ R 26 0 = nI 0 ∧ R 21 0 = R 5 0 ∧ ((X 53 0 = nI 0 ∧ std X 2 = cnt X 2) ∨ X 53 0 = nI 1)
theorem KD_of {R X Y : xSt} (h10 : Y 10 = X 10) (h11 : Y 11 = X 11) (h12 : Y 12 = X 12) (h51 : Y 51 = X 51) (h53 : Y 53 = X 53) (h54 : Y 54 2 = X 54 2) (h : KD R X) : KD R Y := by
  have a : cnt Y 2 = cnt X 2 := by unfold cnt; rw [show szr 2 = 10 from rfl, h10]
  have b : ∀ i, kdX Y i = kdX X i := fun i => by unfold kdX; rw [h53, h51, h11]
  have c : ∀ i, koX Y i = koX X i := fun i => by unfold koX; rw [h53, h51, h12]
  have d : std Y 2 = std X 2 := by unfold std; rw [h54]
  unfold KD
  rw [a, d, h10, h53]
  simp only [b, c]
  exact h
def df (X : xSt) : Prop := X 45 0 = -1 ∧ X 45 2 = -1 ∧ X 25 0 = nI 0 ∧ X 26 0 = nI 0
theorem XK_df {R X : xSt} (h : KD R X) (hd : df X) : XK R X := ⟨h.1, .inl ⟨hd.1, h.2.1⟩, hd.2.2.1.trans h.2.2.1.symm, hd.2.2.2.trans h.2.2.2.1.symm, h.2.2.2.2.2⟩
theorem XO_df {R X : xSt} (h : KD R X) (hd : df X) : XO R X := .inl ⟨hd.2.1, h.2.2.2.2.1⟩
/-- the tie between calls, told anew -/
def PT (R X : xSt) : Prop := XT R X ∧ KD R X ∧ df X
/-- all but the odd numbers, those gone, is the same -/
def od (X Y : xSt) : Prop := ∀ r, r ≠ 25 → r ≠ 26 → r ≠ 45 → Y r = X r
theorem od_rf (X : xSt) : od X X := fun _ _ _ _ => rfl
theorem od_sy {X Y : xSt} (h : od X Y) : od Y X := fun r a b c => (h r a b c).symm
theorem od_tr {X Y Z : xSt} (h : od X Y) (g : od Y Z) : od X Z := fun r a b c => (g r a b c).trans (h r a b c)
theorem od_wr {X Y : xSt} {j i : Nat} {v : Int32} (h : od X Y) (hj : j = 25 ∨ j = 26 ∨ j = 45) : od X (mwr Y j i v) := fun r a b c => (mwr_R _ _ _ (by omega)).trans (h r a b c)
theorem BX_od {X Y : xSt} (h : od X Y) (hB : BX X) : BX Y := by
  have e : ∀ q, cnt Y q = cnt X q := fun q => by unfold cnt; rw [h _ (by have := @szr_b q; omega) (by have := @szr_b q; omega) (by have := @szr_b q; omega)]
  have e2 : ∀ q, std Y q = std X q := fun q => by unfold std; rw [h 54 (by omega) (by omega) (by omega)]
  have e3 : ∀ q, Y (szr q) = X (szr q) := fun q => h _ (by have := @szr_b q; omega) (by have := @szr_b q; omega) (by have := @szr_b q; omega)
  unfold BX CB at *
  simp only [e, e2]
  refine ⟨hB.1, fun q hq => LQ_of (e3 q) (h 50 (by omega) (by omega) (by omega)) (hB.2.1 q hq), ?_⟩
  rw [h 0 (by omega) (by omega) (by omega), h 1 (by omega) (by omega) (by omega), h 47 (by omega) (by omega) (by omega), h 2 (by omega) (by omega) (by omega), h 5 (by omega) (by omega) (by omega), h 10 (by omega) (by omega) (by omega), h 13 (by omega) (by omega) (by omega), h 17 (by omega) (by omega) (by omega), h 34 (by omega) (by omega) (by omega)]
  exact hB.2.2
/-- another plan over the same that was told -/
theorem XT_ap {R T X Y : xSt} (h : XT R X) (ha : AP R T) (ho : od X Y) (hP : PV T) (hK : XK T Y) (hO : XO T Y) : XT T Y := by
  obtain ⟨hB, hC, -, -, -, hTB, h0, h1, hl0, hl1⟩ := h
  have e := fun r (a : r ≠ 25 ∧ r ≠ 26 ∧ r ≠ 45) => ho r a.1 a.2.1 a.2.2
  refine ⟨BX_od ho hB, fun j hj => by rw [e j (by omega), ha.1 j hj]; exact hC j hj, hK, hO, hP, ⟨fun k hk => ?_, fun p hp => ?_⟩, ?_, ?_, fl0_c (e 0 (by decide)) (e 1 (by decide)) (by rw [e 47 (by decide)]) (by rw [e 48 (by decide)]) hl0, fl1_c (e 0 (by decide)) (e 1 (by decide)) (by rw [e 47 (by decide)]) (by rw [e 48 (by decide)]) hl1⟩
  · rw [ha.2.1] at hk
    rw [(ha.2.2.2.1 k hk).1, (ha.2.2.2.1 k hk).2]
    exact hTB.1 k hk
  · rw [ha.2.2.1] at hp
    rw [(ha.2.2.2.2 p hp).2.1]
    exact hTB.2 p hp
  · rw [e 47 (by decide)]
    rcases h0 with z | z
    · refine .inl ⟨z.1, ?_⟩
      unfold sy0
      rw [ha.2.1, e 2 (by decide), e 3 (by decide), e 4 (by decide)]
      exact ⟨z.2.1, fun k hk => by rw [(ha.2.2.2.1 k hk).1, (ha.2.2.2.1 k hk).2]; exact z.2.2 k hk⟩
    · exact .inr ⟨z.1, pr0_c (ha.1 0 (by unfold cj; omega)) (ha.1 1 (by unfold cj; omega)) ha.2.1 ha.2.2.2.1 z.2⟩
  · rw [e 47 (by decide)]
    rcases h1 with z | z
    · refine .inl ⟨z.1, ?_⟩
      unfold sy1
      rw [ha.2.2.1, e 5 (by decide), e 6 (by decide), e 7 (by decide), e 8 (by decide), e 9 (by decide)]
      refine ⟨z.2.1, fun k hk => ?_⟩
      have b := ha.2.2.2.2 k hk
      rw [b.1, b.2.1, b.2.2.1, b.2.2.2]
      exact z.2.2 k hk
    · exact .inr ⟨z.1, pr1_c (ha.1 0 (by unfold cj; omega)) (ha.1 1 (by unfold cj; omega)) ha.2.2.1 ha.2.2.2.2 z.2⟩
/-- what a plan leaves alone -/
def FV (X Y : xSt) : Prop := (∀ r, (r < 2 ∨ (9 < r ∧ r < 25) ∨ (32 < r ∧ r < 45 ∧ r ≠ 38) ∨ (50 < r ∧ r ≠ 54 ∧ r ≠ 55)) → Y r = X r) ∧ (∀ r i, 1 < i → ((46 ≤ r ∧ r ≤ 50) ∨ r = 54) → Y r i = X r i) ∧ (X 47 0 = nI 1 → Y 47 0 = nI 1) ∧ (X 47 1 = nI 1 → Y 47 1 = nI 1)
theorem FV_rf (X : xSt) : FV X X := ⟨fun _ _ => rfl, fun _ _ _ _ => rfl, fun h => h, fun h => h⟩
theorem FV_tr {X Y Z : xSt} (h : FV X Y) (g : FV Y Z) : FV X Z := ⟨fun r hr => (g.1 r hr).trans (h.1 r hr), fun r i a b => (g.2.1 r i a b).trans (h.2.1 r i a b), fun z => g.2.2.1 (h.2.2.1 z), fun z => g.2.2.2 (h.2.2.2 z)⟩
theorem FV_od {X Y : xSt} (h : od X Y) : FV X Y := ⟨fun r hr => h r (by omega) (by omega) (by omega), fun r i a b => by rw [h r (by omega) (by omega) (by omega)], fun z => by rw [h 47 (by omega) (by omega) (by omega)]; exact z, fun z => by rw [h 47 (by omega) (by omega) (by omega)]; exact z⟩
theorem FV_FW {X Y : xSt} (h : FW X Y) : FV X Y := ⟨fun r hr => h.1 r (by omega), fun r i a b => h.2.1 r i a b, h.2.2.2.2.1, h.2.2.2.2.2⟩
theorem FV_wr {X Y : xSt} {j i : Nat} {v : Int32} (h : FV X Y) (hj : (1 < j ∧ j < 10) ∨ j = 38) : FV X (mwr Y j i v) := ⟨fun r hr => (mwr_R _ _ _ (by omega)).trans (h.1 r hr), fun r q a b => (mwr_r _ _ _ _ (by omega)).trans (h.2.1 r q a b), fun z => (mwr_r _ _ _ _ (by omega)).trans (h.2.2.1 z), fun z => (mwr_r _ _ _ _ (by omega)).trans (h.2.2.2 z)⟩
theorem KD_FV {R X Y : xSt} (h : KD R X) (hf : FV X Y) : KD R Y := KD_of (hf.1 10 (by omega)) (hf.1 11 (by omega)) (hf.1 12 (by omega)) (hf.1 51 (by omega)) (hf.1 53 (by omega)) (hf.2.1 54 2 (by decide) (by omega)) h
theorem KD_od {R X Y : xSt} (h : KD R X) (hf : od X Y) : KD R Y := KD_FV h (FV_od hf)
/-- back from a plan: the tie as it was told -/
theorem PT_back {R T X Y Z : xSt} (h : PT R X) (hY : XT T Y) (ha : AP R T) (hf : FV X Y) (ho : od Y Z) (hd : df Z) : PT R Z := by
  have hk := KD_od (KD_FV h.2.1 hf) ho
  exact ⟨XT_ap hY (AP_sy ha) ho h.1.2.2.2.2.1 (XK_df hk hd) (XO_df hk hd), hk, hd⟩
theorem fF_FV {X Y : xSt} (h : FV X Y) : ∀ n, fF Y n → fF X n := by
  intro n hn
  unfold fF at *
  rcases hn with ⟨a, b⟩ | ⟨a, b⟩ | a
  · exact .inl ⟨fun z => a (h.2.2.1 z), b⟩
  · exact .inr (.inl ⟨fun z => a (h.2.2.2 z), b⟩)
  · exact .inr (.inr a)
theorem rc_0 {X : xSt} (h : FRS X) : rc X = 0 ∧ rs X = 0 := by
  unfold rc rs
  rw [if_pos h.1, if_pos h.2, if_pos h.1, if_pos h.2]
  exact ⟨rfl, rfl⟩
theorem fF_ok {X : xSt} {b : Nat} (h : b < 256 ∨ (258 ≤ b ∧ b < 1088)) : ¬ fF X b := fun z => by
  unfold fF at z
  rcases z with ⟨-, z⟩ | ⟨-, z⟩ | z <;> omega
theorem RQ_of {T X : xSt} (h : RD (runsF T) X) (h2 : X 55 0 = nI 24) : RQ (runsF T) X := ⟨h, h2⟩
