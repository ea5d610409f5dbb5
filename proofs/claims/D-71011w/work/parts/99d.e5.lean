/-! THE LAW's WORLD: both sides and the script -/
set_option maxRecDepth 100000
set_option maxHeartbeats 400000
def wL (X S : xSt) (L : Nat) (xs : Nat → Int32) : xW := fun n => if n = 990 then some (.inl (.int, false, L, fun j => .int (xs j))) else if 1000 ≤ n ∧ n < 1046 then mW S n else wX X n
/-- every name that a call may make anew, sheets too -/
def fB (n : Nat) : Prop := fA n ∨ (832 ≤ n ∧ n < 836)
theorem wX_mid {X : xSt} {n : Nat} (h1 : 960 ≤ n) (h2 : n < 1088) : wX X n = none := by
  unfold wX
  rcases (show n / 64 = 15 ∨ n / 64 = 16 by omega) with e | e <;> rw [e] <;> rfl
theorem wX_out {X : xSt} {n : Nat} {c : xC} (h : wX X n = some c) : n < 960 ∨ 1088 ≤ n := by
  by_cases z : n < 960 ∨ 1088 ≤ n
  · exact z
  · rw [wX_mid (by omega) (by omega)] at h
    cases h
theorem wL_X {X S : xSt} {L : Nat} {xs : Nat → Int32} {n : Nat} (h : n < 960 ∨ 1088 ≤ n) : wL X S L xs n = wX X n := by
  unfold wL
  rw [if_neg (by omega), if_neg (by omega)]
theorem wL_M {X S : xSt} {L : Nat} {xs : Nat → Int32} {n : Nat} (h : 1000 ≤ n ∧ n < 1046) : wL X S L xs n = mW S n := by
  unfold wL
  rw [if_neg (by omega), if_pos h]
theorem mW_in {S : xSt} {n : Nat} {c : xC} (h : mW S n = some c) : (1000 ≤ n ∧ n < 1046) ∧ xo c = true ∧ ∀ S', ∃ d, mW S' n = some d := by
  unfold mW at h
  by_cases e : n = 1000
  · rw [if_pos e] at h
    cases h
    exact ⟨by omega, rfl, fun S' => ⟨_, by rw [e]; exact mW_obj S'⟩⟩
  · rw [if_neg e] at h
    by_cases g : 1001 ≤ n ∧ n < 1046 ∧ mlen (n - 1001) ≠ 0
    · rw [if_pos g] at h
      cases h
      exact ⟨by omega, rfl, fun S' => ⟨_, by unfold mW; rw [if_neg e, if_pos g]⟩⟩
    · rw [if_neg g] at h
      cases h
theorem mW_nr {S : xSt} {n a : Nat} {c : xC} (h : mW S n = some c) (ha : a < 1001 ∨ 1046 ≤ a) : xnr a c := by
  unfold mW at h
  by_cases e : n = 1000
  · rw [if_pos e] at h
    cases h
    intro v hv z
    obtain ⟨j, hj, rfl⟩ := List.mem_map.mp hv
    have := List.mem_range.mp hj
    unfold mf at z
    by_cases q : mlen j = 0
    · rw [if_pos q] at z; cases z
    · rw [if_neg q] at z
      have z2 : 1001 + j = a := Value.ref.inj z
      omega
  · rw [if_neg e] at h
    by_cases g : 1001 ≤ n ∧ n < 1046 ∧ mlen (n - 1001) ≠ 0
    · rw [if_pos g] at h
      cases h
      exact fun j _ z => nomatch z
    · rw [if_neg g] at h
      cases h
theorem own_if {C : Prop} [Decidable C] {x c : xC} (hx : xo x = true) (h : (if C then some x else none) = some c) : xo c = true := by
  by_cases e : C
  · rw [if_pos e] at h; cases h; exact hx
  · rw [if_neg e] at h; cases h
/-- a cell of PromiseTailor's is its own, or a constant -/
theorem wX_own {X : xSt} {n : Nat} {c : xC} (h : wX X n = some c) : xo c = true ∨ ((900 ≤ n ∧ n < 960) ∧ ∀ Y, wX Y n = some c) := by
  have e : n = 64 * (n / 64) + n % 64 := (Nat.div_add_mod n 64).symm
  have hd : n % 64 < 64 := Nat.mod_lt n (by decide)
  unfold wX at h ⊢
  generalize n / 64 = b at h e ⊢
  generalize n % 64 = d at h e hd ⊢
  match b, h with
  | 0, h => exact .inl (own_if rfl (show cl0 X d = some c from h))
  | 1, h => exact .inl (own_if rfl (show cl1 X d = some c from h))
  | 2, h => exact .inl (own_if rfl (show cl2 X d = some c from h))
  | 3, h => exact .inl (own_if rfl (show cl3 X d = some c from h))
  | 4, h => exact .inl (own_if rfl (show cl4 X d = some c from h))
  | 5, h => exact .inl (own_if rfl (show cl5 X d = some c from h))
  | 6, h => exact .inl (own_if rfl (show cl6 X d = some c from h))
  | 7, h => exact .inl (own_if rfl (show cl7 X d = some c from h))
  | 8, h => exact .inl (own_if rfl (show cl8 X d = some c from h))
  | 9, h => exact .inl (own_if rfl (show cl9 X d = some c from h))
  | 10, h => exact .inl (own_if rfl (show cl10 X d = some c from h))
  | 11, h =>
    clear e hd
    match d, h with
    | 0, h => cases h; exact .inl rfl
    | 1, h => cases h; exact .inl rfl
    | 2, h => cases h; exact .inl rfl
    | 3, h => cases h; exact .inl rfl
    | 4, h => cases h; exact .inl rfl
    | 5, h => cases h; exact .inl rfl
    | 6, h => cases h; exact .inl rfl
    | d + 7, h => exact absurd (show none = some c from h) (fun z => nomatch z)
  | 12, h => exact .inl (own_if rfl (show cl12 X d = some c from h))
  | 13, h => exact .inl (own_if rfl (show cl13 X d = some c from h))
  | 14, h =>
    have h : cl14 X d = some c := h
    by_cases q : 3 < d ∧ d < 64
    · exact .inr ⟨⟨by omega, by omega⟩, fun Y => h⟩
    · have z : d < 4 := by omega
      unfold cl14 at h
      rw [if_neg (by omega), if_neg (by omega), if_neg (by omega), if_neg (by omega), if_neg (by omega)] at h
      cases h
  | 15, h => cases h
  | 16, h => cases h
  | 17, h => exact .inl (own_if rfl (show cl17 X d = some c from h))
  | 18, h => exact .inl (own_if rfl (show cl18 X d = some c from h))
  | 19, h => exact .inl (own_if rfl (show cl19 X d = some c from h))
  | 20, h => exact .inl (own_if rfl (show cl20 X d = some c from h))
  | 21, h => exact .inl (own_if rfl (show cl21 X d = some c from h))
  | 22, h => exact .inl (own_if rfl (show cl22 X d = some c from h))
  | b + 23, h => exact absurd (show none = some c from h) (fun z => nomatch z)
section FR
variable {l : Launch} {y : MethodName} {ws : List Cond} {d c s : Nat} {F : Nat → Prop} {as : List Value} {X S : xSt} {P : Option Value → xSt → Prop} {L : Nat} {xs : Nat → Int32}
theorem join_X {X' : xSt} : xjoin (wX X) (wL X S L xs) (wX X') = wL X' S L xs := by
  funext n
  by_cases h : n < 960 ∨ 1088 ≤ n
  · rw [wL_X h]
    cases e : wX X' n with
    | some q => exact xjoin_s e
    | none =>
      cases e1 : wX X n with
      | none => rw [xjoin_r e e1, wL_X h, e1]
      | some q => exact xjoin_n e e1
  · rw [xjoin_r (wX_mid (by omega) (by omega)) (wX_mid (by omega) (by omega))]
    unfold wL
    by_cases h1 : n = 990
    · rw [if_pos h1, if_pos h1]
    · rw [if_neg h1, if_neg h1]
      by_cases h2 : 1000 ≤ n ∧ n < 1046
      · rw [if_pos h2, if_pos h2]
      · rw [if_neg h2, if_neg h2, wX_mid (by omega) (by omega), wX_mid (by omega) (by omega)]
theorem keep_X {X' : xSt} (hF : ∀ n, F n → fB n) : xkeep (wX X) (wL X S L xs) F (wX X') := by
  intro n c h
  have ho := wX_out h
  refine ⟨?_, fun z => by rw [wL_X ho]; exact z⟩
  rcases wX_own h with g | ⟨g1, g2⟩
  · exact .inl g
  · refine .inr ⟨g2 X, fun z => ?_⟩
    have := hF n z
    unfold fB fA at this
    omega
theorem rest_X (hF : ∀ n, F n → fB n) : ∀ n c, wL X S L xs n = some c → wX X n = none → ¬ F n ∧ ∀ a, F a → xnr a c := by
  intro n c h h1
  unfold wL at h
  have fb : ∀ a, F a → (a < 1001 ∨ 1046 ≤ a) := fun a z => by
    have := hF a z
    unfold fB fA at this
    omega
  by_cases e : n = 990
  · rw [if_pos e] at h
    cases h
    refine ⟨fun z => ?_, fun a _ j _ q => nomatch q⟩
    have := hF n z
    unfold fB fA at this
    omega
  · rw [if_neg e] at h
    by_cases g : 1000 ≤ n ∧ n < 1046
    · rw [if_pos g] at h
      refine ⟨fun z => ?_, fun a ha => mW_nr h (fb a ha)⟩
      have := hF n z
      unfold fB fA at this
      omega
    · rw [if_neg g, h1] at h
      cases h
/-- PromiseTailor's contract in the law's world -/
theorem FX (h : Cz l y ws d c s F as X P) (hF : ∀ n, F n → fB n) : Cn l y ws (rmD d c s, F, (fun r w' => ∃ X', w' = wL X' S L xs ∧ P r X'), xX0) as (wL X S L xs) :=
  Cn_frame h rfl rfl (fun n c hn => by rw [wL_X (wX_out hn)]; exact hn) (rest_X hF) (fun r w' ⟨X', e, hP⟩ => by rw [e]; exact ⟨keep_X hF, X', join_X, hP⟩) (fun _ _ _ h => h.elim)
theorem join_M {S' : xSt} : xjoin (mW S) (wL X S L xs) (mW S') = wL X S' L xs := by
  funext n
  by_cases h : 1000 ≤ n ∧ n < 1046
  · rw [wL_M h]
    cases e : mW S' n with
    | some q => exact xjoin_s e
    | none =>
      cases e1 : mW S n with
      | none => rw [xjoin_r e e1, wL_M h, e1]
      | some q => exact xjoin_n e e1
  · have no : ∀ T, mW T n = none := fun T => by
      cases e : mW T n with
      | none => rfl
      | some q => exact absurd (mW_in e).1 h
    rw [xjoin_r (no _) (no _)]
    unfold wL
    by_cases h1 : n = 990
    · rw [if_pos h1, if_pos h1]
    · rw [if_neg h1, if_neg h1, if_neg h, if_neg h]
/-- the model's -/
theorem FM {cc : ByteArray} {nL : Nat} {ret : Option FieldType} (h : Cm l y cc nL ret d as S P) : Cn l y (ws_ y cc nL ret) (rmD d 0 0, xF0, (fun r w' => ∃ S', w' = wL X S' L xs ∧ P r S'), xX0) (.ref 1000 :: as) (wL X S L xs) :=
  Cn_frame h rfl rfl (fun n c hn => by rw [wL_M (mW_in hn).1]; exact hn) (fun n c _ _ => ⟨fun z => z.elim, fun a z => z.elim⟩) (fun r w' ⟨S', e, hP⟩ => by
    rw [e]
    refine ⟨fun n c hn => ?_, S', join_M, hP⟩
    obtain ⟨g1, g2, g3⟩ := mW_in hn
    refine ⟨.inl g2, fun z => ?_⟩
    obtain ⟨d, hd⟩ := g3 S
    rw [hd] at z
    cases z) (fun _ _ _ h => h.elim)
end FR

