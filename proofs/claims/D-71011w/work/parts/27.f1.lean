/-! THE FRAME RULE: a contract over a part w1 of a world, told over the whole world w -/
set_option maxRecDepth 100000
def xjoin (w1 w w' : xW) : xW := fun n => match w' n with
  | some c => some c
  | none => match w1 n with
    | none => w n
    | some _ => none
theorem xjoin_s {w1 w w' : xW} {n : Nat} {c : xC} (h : w' n = some c) : xjoin w1 w w' n = some c := by unfold xjoin; rw [h]
theorem xjoin_r {w1 w w' : xW} {n : Nat} (h : w' n = none) (h1 : w1 n = none) : xjoin w1 w w' n = w n := by unfold xjoin; rw [h, h1]
theorem xjoin_n {w1 w w' : xW} {n : Nat} {c : xC} (h : w' n = none) (h1 : w1 n = some c) : xjoin w1 w w' n = none := by unfold xjoin; rw [h, h1]
theorem xjoin_inv {w1 w w' : xW} {n : Nat} {c : xC} (h : xjoin w1 w w' n = some c) : w' n = some c ∨ (w' n = none ∧ w1 n = none ∧ w n = some c) := by
  cases e : w' n with
  | some d => exact .inl (by rw [xjoin_s e] at h; exact h)
  | none =>
    cases e1 : w1 n with
    | some d => rw [xjoin_n e e1] at h; cases h
    | none => exact .inr ⟨rfl, rfl, by rw [xjoin_r e e1] at h; exact h⟩
/-- what a callee gives back can be joined with the rest -/
def xkeep (w1 w : xW) (F : Nat → Prop) (w' : xW) : Prop := ∀ n c, w' n = some c → (xo c = true ∨ (w1 n = some c ∧ ¬ F n)) ∧ (w1 n = none → w n = none)
theorem xat.ren {D : va_G} {ad ad' : Nat → Nat} {U : State} {H : Heap} {q : Nat} {c : xC} {F : Nat → Prop} (hc : xat D ad U H q c) (hn : ∀ a, F a → xnr a c) (ha : ∀ n, ¬ F n → ad' n = ad n) : xat D ad' U H q c := by
  cases c with
  | inl x =>
    obtain ⟨cell, h1, h2, h3, h4, h5, h6, h7⟩ := hc
    exact ⟨cell, h1, h2, h3, h4, h5, fun j hj => by rw [h6 j hj, xv_ok (ad := ad) (ad' := ad') (F := F) (fun n e hF => hn n hF j hj e) ha], h7⟩
  | inr x =>
    obtain ⟨r, cell, h0, h1, h2, h3, h4, h5, h6⟩ := hc
    refine ⟨r, cell, h0, h1, h2, h3, h4, h5, fun j hj => ?_⟩
    rw [h6 j hj]
    congr 1
    refine (xv_ok (F := F) (fun n e hF => ?_) ha).symm
    unfold vp_V at e
    rw [List.getD_eq_getElem?_getD] at e
    cases hg : x.2.2[j]? with
    | none => rw [hg] at e; cases e
    | some v =>
      rw [hg] at e
      exact hn n hF v (List.mem_of_getElem? hg) e
theorem xjoin_rep {D : va_G} {ad ad' : Nat → Nat} {w w1 w' : xW} {sz : Nat} {F : Nat → Prop} {s t : State} (hP : xRep D ad w (xA w ad sz) s s.heap) (hsz : s.heap.size = sz) (hal : s.vm.Alike t.vm) (e4 : xRep D ad' w' (xA w1 ad sz) t t.heap) (e5 : va_F (xA w1 ad sz) s t) (e3 : ∀ n, ¬ F n → ad' n = ad n) (hk : xkeep w1 w F w')
    (hsub : ∀ n c, w1 n = some c → w n = some c) (hrest : ∀ n c, w n = some c → w1 n = none → ¬ F n ∧ ∀ a, F a → xnr a c) : xRep D ad' (xjoin w1 w w') (xA w ad sz) t t.heap := by
  have hA : ∀ q, xA w1 ad sz q → xA w ad sz q := by
    rintro q (⟨n, c, h1, h2, h3⟩ | h)
    · exact .inl ⟨n, c, hsub n c h1, h2, h3⟩
    · exact .inr h
  have hr : ∀ n c, w n = some c → w1 n = none → ¬ xA w1 ad sz (ad n) := by
    rintro n c hw hn (⟨m, d, h1, -, h3⟩ | h)
    · have := hP.2 n m c d hw (hsub m d h1) h3
      rw [← this, hn] at h1
      cases h1
    · have := (hP.1 n c hw).1.lt
      omega
  refine ⟨fun n c hn => ?_, fun n m c d hn hm hnm => ?_⟩
  · rcases xjoin_inv hn with h | ⟨-, h1, h2⟩
    · exact ⟨(e4.1 n c h).1, fun ho => hA _ ((e4.1 n c h).2 ho)⟩
    · obtain ⟨f1, f2⟩ := hrest n c h2 h1
      have hx := (hP.1 n c h2).1
      refine ⟨?_, fun ho => ?_⟩
      · rw [e3 n f1]
        exact ((hx.moved hal).kept (e5.2 _ hx.lt (hr n c h2 h1))).ren f2 e3
      · rw [e3 n f1]
        exact .inl ⟨n, c, h2, ho, rfl⟩
  · have mix : ∀ n m c d, w' n = some c → w1 m = none → w m = some d → ad' n = ad' m → False := by
      intro n m c d hn h1 h2 e
      rw [e3 m (hrest m d h2 h1).1] at e
      rcases (hk n c hn).1 with ho | ⟨g1, g2⟩
      · have := (e4.1 n c hn).2 ho
        rw [e] at this
        exact hr m d h2 h1 this
      · rw [e3 n g2] at e
        have := hP.2 n m c d (hsub n c g1) h2 e
        rw [this, h1] at g1
        cases g1
    rcases xjoin_inv hn with h | ⟨-, h1, h2⟩
    · rcases xjoin_inv hm with g | ⟨-, g1, g2⟩
      · exact e4.2 n m c d h g hnm
      · exact (mix n m c d h g1 g2 hnm).elim
    · rcases xjoin_inv hm with g | ⟨-, g1, g2⟩
      · exact (mix m n d c g h1 h2 hnm.symm).elim
      · rw [e3 n (hrest n c h2 h1).1, e3 m (hrest m d g2 g1).1] at hnm
        exact hP.2 n m c d h2 g2 hnm
theorem Cn_frame {l : Launch} {y : MethodName} {ws : List Cond} {S S2 : xS} {as : List Value} {w w1 : xW} (hM : Cn l y ws S as w1) (hrm : S2.1 = S.1) (hFn : S2.2.1 = S.2.1) (hsub : ∀ n c, w1 n = some c → w n = some c) (hrest : ∀ n c, w n = some c → w1 n = none → ¬ S.2.1 n ∧ ∀ a, S.2.1 a → xnr a c)
    (hQ : ∀ r w', S.2.2.1 r w' → xkeep w1 w S.2.1 w' ∧ S2.2.2.1 r (xjoin w1 w w')) (hX : ∀ E q w', S.2.2.2 E q w' → xkeep w1 w S.2.1 w' ∧ S2.2.2.2 E q (xjoin w1 w w')) : Cn l y ws S2 as w := by
  intro D ad sz
  have h := hM D ad sz
  have hA : ∀ q, xA w1 ad sz q → xA w ad sz q := by
    rintro q (⟨n, c, h1, h2, h3⟩ | h)
    · exact .inl ⟨n, c, hsub n c h1, h2, h3⟩
    · exact .inr h
  rw [hrm]
  intro p e ha hc hk s m args below hf happ hP hK
  obtain ⟨hP1, hP2, hP3, hP4, hP5, hP6⟩ := hP
  have hP' : xPc D ad w1 as sz args s := ⟨hP1, hP2, ⟨fun n c hn => ⟨(hP3.1 n c (hsub n c hn)).1, fun ho => .inl ⟨n, c, hn, ho, rfl⟩⟩, fun n m c d g1 g2 => hP3.2 n m c d (hsub _ _ g1) (hsub _ _ g2)⟩, hP4, hP5, hP6.narrow hA⟩
  obtain ⟨n, o, h1, h2, h3, h4⟩ := h p e ha hc hk s m args below hf happ hP' hK
  refine ⟨n, o, h1, h2, h3, ?_⟩
  rcases h4 with ⟨⟨⟨r, w', ad', e1, e2, e3, e4⟩, e5⟩, L, e6, e7⟩ | ⟨q, e0, E, ce, L, ⟨⟨qn, w', ad', a1, a2, a3, a4⟩, a5⟩, b1, b2, b3, b4, b5, b6⟩
  · obtain ⟨k1, k2⟩ := hQ r w' e2
    exact .inl ⟨⟨⟨r, xjoin w1 w w', ad', e1, k2, by rw [hFn]; exact e3, xjoin_rep hP3 hP2 e6.2.1.alike e4 e5 e3 k1 hsub hrest⟩, e5.1, fun z hz hn => e5.2 z hz fun g => hn (hA z g)⟩, L, e6, fun z hz => hA _ (e7 z hz)⟩
  · obtain ⟨k1, k2⟩ := hX E qn w' a2
    exact .inr ⟨q, e0, E, ce, L, ⟨⟨qn, xjoin w1 w w', ad', a1, k2, by rw [hFn]; exact a3, xjoin_rep hP3 hP2 b4.alike a4 a5 a3 k1 hsub hrest⟩, a5.1, fun z hz hn => a5.2 z hz fun g => hn (hA z g)⟩, b1, b2, b3, b4, b5, fun z hz => hA _ (b6 z hz)⟩
