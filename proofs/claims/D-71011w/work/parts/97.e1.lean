/-! rows for a constructor: arrays of arrays -/
set_option maxRecDepth 100000
section V11
variable {l : Launch} {M : xM} {S : xS} {pc : Nat} {ls : List (Option Value)} {st : List Value} {w : xW} {k n : Nat}
theorem va_AOA {U : State} {args : Array Value} {t : FieldType} (h : va_Nw (.arrayOver (.array t)) U) : (Cond.arrayOver (.array t)).before args U = true := by
  unfold va_Nw Cond.before Cond.holds at h
  unfold Cond.before Cond.holds
  simp only [Cond.value] at h ⊢
  exact h
/-- the world with an array a of N arrays b .., each K long -/
def upm (w : xW) (a b N K : Nat) (g : Nat → Nat → Value) : xW := fun x => if x = a then some (.inl (.array .int, true, N, fun i => .ref (b + i))) else if b ≤ x ∧ x < b + N then some (.inl (.int, true, K, g (x - b))) else w x
theorem xl_rn {F : Nat → Prop} {ad ad' : Nat → Nat} {ls : List (Option Value)} (hn : ∀ v, some v ∈ ls → xok F v) (ha : ∀ n, ¬ F n → ad' n = ad n) : ∀ q ∈ xl ad' ls, q ∈ xl ad ls := xl_ok hn ha
theorem V_multi {index N K k' n' : Nat} {i j : Int32} (a b : Nat) (g : Nat → Nat → Value) (hg : ∀ d j, j < K → g d j = .int 0) (hd : decode M.2.1 pc = .ok (.multianewarray index 2, 4)) (hlk : Cond.classLink M.1 index "[[I" ∈ lw_all) (hac : Cond.arrayClass .int ∈ lw_all) (hi0 : ¬ i < 0) (hiN : i.toNatClampNeg = N) (hj0 : ¬ j < 0) (hjK : j.toNatClampNeg = K) (hN1 : N ≤ 1000) (hK1 : K ≤ 1000) (hab : a < b ∨ b + N ≤ a)
    (hw : ∀ x, (x = a ∨ (b ≤ x ∧ x < b + N)) → w x = none ∧ S.2.1 x ∧ ∀ n c, w n = some c → xnr x c) (hls : ∀ v, some v ∈ ls → xok (fun x => x = a ∨ (b ≤ x ∧ x < b + N)) v) (hst : ∀ v ∈ st, xok (fun x => x = a ∨ (b ≤ x ∧ x < b + N)) v) (hR : (1 + N) + k' ≤ k ∧ (N + N * K) + n' ≤ n)
    (kk : V l M S (pc + 4) ls (.ref a :: st) (upm w a b N K g) k' n') : V l M S pc ls (.int j :: .int i :: st) w k n := by
  intro p e s m args below meth c H locs lsA D ad0 ad A cells slots hC hN hL hk hn
  have hts := hC.2.2.2.2.2.2.1
  have hE := hC.2.2.2.2.2.2.2.2.2.2.2.1
  have hA := hC.2.2.2.2.2.2.2.2.2.1
  subst hiN hjK
  intro T hT X
  obtain ⟨vm₁, cA, comp, hW, hfA, hfC, hO, hI, X1, st1⟩ := X.multianewarray2F hC.1 (own := M.1) (index := index) (ty := .int) hC.2.2.2.2.2.1 (hts _ hlk) (va_AOA hE.2.2.2.2) (hts _ hac) (g := F0 m pc lsA (.int j :: .int i :: st.map (xv ad))) rfl (by rw [hC.2.1]; exact hd) (rest := st.map (xv ad)) rfl hi0 hj0 (by omega) (by show j.toNatClampNeg * 4 ≤ 536870912; omega) (by omega) rfl rfl (by omega) (by omega)
  obtain ⟨f1, f2, -, -⟩ := Jvm.Free.Multi.fill_facts (T.setVm vm₁) cA comp i.toNatClampNeg j.toNatClampNeg (.int 0) i.toNatClampNeg
  have fo := fun (x : Nat) (hx : x < T.heap.size) => Jvm.Free.Multi.fill_old (T.setVm vm₁) cA comp i.toNatClampNeg j.toNatClampNeg (.int 0) (a := x) hx i.toNatClampNeg
  have fi := fun (x : Nat) (hx : x < i.toNatClampNeg) => Jvm.Free.Multi.fill_inner (T.setVm vm₁) cA comp i.toNatClampNeg j.toNatClampNeg (.int 0) i.toNatClampNeg x hx
  have og := Jvm.Free.Multi.outerC_facts cA i.toNatClampNeg T.heap.size i.toNatClampNeg
  have os := fun (x : Nat) (hx : x < i.toNatClampNeg) => Jvm.Free.Multi.outerC_slot cA i.toNatClampNeg T.heap.size i.toNatClampNeg x hx
  have hO1 := hO i.toNatClampNeg T.heap.size i.toNatClampNeg
  have hI1 := hI j.toNatClampNeg (.int 0)
  rw [show defaultValue FieldType.int = .int 0 from rfl] at X1 st1
  generalize hT2 : Jvm.Free.Multi.fill (T.setVm vm₁) cA comp i.toNatClampNeg j.toNatClampNeg (.int 0) i.toNatClampNeg = T2 at *
  have e1 : T2.heap[H.size]? = some (Jvm.Free.Multi.outerC cA i.toNatClampNeg T.heap.size i.toNatClampNeg) := by rw [← hT]; exact f2
  have z1 : T2.heap.size = H.size + 1 + i.toNatClampNeg := by rw [← hT]; exact f1
  have o1 : ∀ q : Nat, q < H.size → T2.heap[q]? = H[q]? := fun q hq => by rw [← hT] at hq ⊢; exact fo q hq
  have i1 : ∀ q : Nat, q < i.toNatClampNeg → T2.heap[H.size + 1 + q]? = some (Jvm.Free.Multi.innerC comp j.toNatClampNeg (.int 0)) := fun q hq => by rw [← hT]; exact fi q hq
  rw [hT] at og os e1 hO1 st1
  generalize hoc : Jvm.Free.Multi.outerC cA i.toNatClampNeg H.size i.toNatClampNeg = oc at *
  generalize i.toNatClampNeg = N at *
  generalize j.toNatClampNeg = K at *
  -- the new addresses
  have hF : ∀ x, ¬ (x = a ∨ (b ≤ x ∧ x < b + N)) → (if x = a then H.size else if b ≤ x ∧ x < b + N then H.size + 1 + (x - b) else ad x) = ad x := fun x hx => by
    rw [if_neg (fun z => hx (.inl z)), if_neg (fun z => hx (.inr z))]
  generalize had : (fun x => if x = a then H.size else if b ≤ x ∧ x < b + N then H.size + 1 + (x - b) else ad x) = ad' at *
  have d0 : ad' a = H.size := by rw [← had]; exact if_pos rfl
  have d1 : ∀ x, b ≤ x ∧ x < b + N → ad' x = H.size + 1 + (x - b) := fun x hx => by
    rw [← had]
    show (if x = a then H.size else if b ≤ x ∧ x < b + N then H.size + 1 + (x - b) else ad x) = _
    rw [if_neg (by omega), if_pos hx]
  have d2 : ∀ x, ¬ (x = a ∨ (b ≤ x ∧ x < b + N)) → ad' x = ad x := fun x hx => by rw [← had]; exact hF x hx
  have u0 : upm w a b N K g a = some (.inl (.array .int, true, N, fun i => .ref (b + i))) := if_pos rfl
  have u1 : ∀ x, b ≤ x ∧ x < b + N → upm w a b N K g x = some (.inl (.int, true, K, g (x - b))) := fun x hx => by unfold upm; rw [if_neg (by omega), if_pos hx]
  have u2 : ∀ x, ¬ (x = a ∨ (b ≤ x ∧ x < b + N)) → upm w a b N K g x = w x := fun x hx => by unfold upm; rw [if_neg (fun z => hx (.inl z)), if_neg (fun z => hx (.inr z))]
  have three : ∀ x, x = a ∨ (b ≤ x ∧ x < b + N) ∨ ¬ (x = a ∨ (b ≤ x ∧ x < b + N)) := fun x => by omega
  have hN' : xNow S s D ad0 ad' A (upm w a b N K g) T2.heap locs := by
    refine ⟨⟨fun x d hx => ?_, fun x y c1 c2 hx hy exy => ?_⟩, ⟨Nat.le_trans hN.2.1.1 (by omega), fun q h1 h2 => (o1 q (Nat.lt_of_lt_of_le h1 hN.2.1.1)).trans (hN.2.1.2.1 q h1 h2), hN.2.1.2.2⟩, fun x hx => ?_⟩
    · rcases three x with h | h | h
      · rw [h, u0] at hx
        cases hx
        rw [h, d0]
        exact ⟨⟨oc, e1, hO1.1, hO1.2, by rw [og.2.1]; rfl, og.2.2, fun q hq => by
          have hq : q < N := hq
          rw [os q hq, if_pos hq]
          show _ = some (Value.ref (ad' (b + q)))
          rw [d1 (b + q) (by omega), show b + q - b = q from by omega], fun _ => ⟨by rw [og.1]; exact hfA, og.2.1⟩⟩, fun _ => hA _ hN.2.1.1⟩
      · rw [u1 x h] at hx
        cases hx
        rw [d1 x h]
        have hq := i1 (x - b) (by omega)
        refine ⟨⟨_, hq, hI1.1, hI1.2, rfl, Array.size_replicate, fun q hq => ?_, fun _ => ⟨hfC, rfl⟩⟩, fun _ => hA _ (Nat.le_trans hN.2.1.1 (by omega))⟩
        have hq : q < K := hq
        show (Array.replicate K (Value.int 0))[q]? = some (xv ad' (g (x - b) q))
        rw [Array.getElem?_replicate, if_pos hq, hg _ _ hq]
        rfl
      · rw [u2 x h] at hx
        rw [d2 x h]
        have hx1 := hN.1.1 x d hx
        refine ⟨(hx1.1.kept (o1 _ hx1.1.lt)).ren (F := fun x => x = a ∨ (b ≤ x ∧ x < b + N)) (fun q hq => (hw q hq).2.2 x d hx) d2, hx1.2⟩
    · have lo : ∀ z, ¬ (z = a ∨ (b ≤ z ∧ z < b + N)) → ∀ d, upm w a b N K g z = some d → ad' z < H.size := fun z hz d hd => by
        rw [u2 z hz] at hd
        rw [d2 z hz]
        exact (hN.1.1 z d hd).1.lt
      rcases three x with h | h | h <;> rcases three y with g | g | g
      · rw [h, g]
      · rw [h, d0, d1 y g] at exy; omega
      · have := lo y g c2 hy; rw [h, d0] at exy; omega
      · rw [g, d0, d1 x h] at exy; omega
      · rw [d1 x h, d1 y g] at exy; omega
      · have := lo y g c2 hy; rw [d1 x h] at exy; omega
      · have := lo x h c1 hx; rw [g, d0] at exy; omega
      · have := lo x h c1 hx; rw [d1 y g] at exy; omega
      · rw [d2 x h, d2 y g] at exy
        rw [u2 x h] at hx
        rw [u2 y g] at hy
        exact hN.1.2 x y c1 c2 hx hy exy
    · rw [d2 x (fun z => hx (hw x z).2.1)]
      exact hN.2.2 x hx
  have := kk p e s m args below meth c T2.heap locs lsA D ad0 ad' A (cells + 1 + N) (slots + N + N * K) hC hN' (xl_has hL (xl_ok hls d2)) (by omega) (by omega) T2 rfl X1
  obtain ⟨t, a1, b1⟩ := this
  refine ⟨t, st1 t ?_, b1⟩
  rw [List.map_cons, List.map_congr_left (g := xv ad) (fun v hv => xv_ok (hst v hv) d2)] at a1
  rw [show xv ad' (.ref a) = .ref H.size from congrArg Value.ref d0] at a1
  exact a1
/-- a new array of (yet no) int arrays -/
theorem V_anewA {index N k' n' : Nat} {i : Int32} (a : Nat) (hd : decode M.2.1 pc = .ok (.anewarray index, 3)) (hlk : Cond.classLink M.1 index "[I" ∈ lw_all) (hi0 : ¬ i < 0) (hiN : i.toNatClampNeg = N) (hby : N * 4 ≤ 536870912)
    {f : Nat → Value} (hf : ∀ j, j < N → f j = .null) (hw : w a = none) (hF : S.2.1 a) (hcell : ∀ n c, w n = some c → xnr a c) (hls : ∀ v, some v ∈ ls → v ≠ .ref a) (hst : ∀ v ∈ st, v ≠ .ref a) (hR : 1 + k' ≤ k ∧ N + n' ≤ n) (kk : V l M S (pc + 3) ls (.ref a :: st) (upw w a (.inl (.array .int, true, N, f))) k' n') : V l M S pc ls (.int i :: st) w k n := by
  intro p e s m args below meth c H locs lsA D ad0 ad A cells slots hC hN hL hk hn
  have hE := hC.2.2.2.2.2.2.2.2.2.2.2.1
  subst hiN
  refine W.anewA hC.1 hC.2.1 (t := .int) hC.2.2.2.2.2.1 (hC.2.2.2.2.2.2.1 _ hlk) (va_AOA hE.2.2.2.2) rfl hd (rest := st.map (xv ad)) rfl hi0 hby (by omega) (by omega) fun cA kA comp f1 f2 f3 f4 => ?_
  generalize hH1 : H.push ({ cls := cA, slots := Array.replicate i.toNatClampNeg .null, vm := .none } : Cell) = H1
  have z1 : H1.size = H.size + 1 := by rw [← hH1, Array.size_push]
  have e1 : H1[H.size]? = some (arrV cA i.toNatClampNeg (fun _ => .null)) := by rw [← hH1, Array.getElem?_push_size, ← arrV_new]
  have o1 : ∀ q : Nat, q < H.size → H1[q]? = H[q]? := fun q hq => by rw [← hH1, Array.getElem?_push, if_neg (Nat.ne_of_lt hq)]
  have hN' := xNow.push (a := a) (c := .inl (.array .int, true, i.toNatClampNeg, f)) hC hN hw hF hcell z1 o1 ⟨_, e1, ⟨(fun q h => by cases h), kA, f2, comp, f3⟩, (fun h => nomatch h), rfl, arrV_size _ _ _, (fun j hj => by have hj : j < i.toNatClampNeg := hj; show (arrV _ _ _).slots[j]? = some (xv _ (f j)); rw [arrV_read _ _ hj, hf j hj]; rfl), (fun _ => ⟨f1, rfl⟩)⟩
  have := kk p e s m args below meth c H1 locs lsA D ad0 _ A (cells + 1) (slots + i.toNatClampNeg) hC hN' (xl_has hL (xl_up hls)) (by omega) (by omega)
  rw [List.map_cons, xst_up hst] at this
  refine W.eq ?_ this
  show F0 m (pc + 3) lsA (_ :: _) = F0 m (pc + 3) lsA (_ :: _)
  congr 2
  show Value.ref _ = Value.ref (if a = a then H.size else ad a)
  rw [if_pos rfl]
/-- a cell's contents beyond its length are nothing -/
theorem V_cut {a N : Nat} {ty : FieldType} {ow : Bool} {f g : Nat → Value} (hw : w a = some (.inl (ty, ow, N, f))) (hfg : ∀ j, j < N → f j = g j) (kk : V l M S pc ls st (upw w a (.inl (ty, ow, N, g))) k n) : V l M S pc ls st w k n := by
  intro p e s m args below meth c H locs lsA D ad0 ad A cells slots hC hN hL hk hn
  have key : ∀ x d, upw w a (.inl (ty, ow, N, g)) x = some d → ∃ d', w x = some d' ∧ xo d' = xo d ∧ ∀ q, xat D ad s H q d' → xat D ad s H q d := by
    intro x d hx
    by_cases e : x = a
    · rw [e, upw_self] at hx
      cases hx
      refine ⟨.inl (ty, ow, N, f), by rw [e]; exact hw, rfl, fun q hq => ?_⟩
      obtain ⟨cell, h1, h2, h3, h4, h5, h6, h7⟩ := hq
      exact ⟨cell, h1, h2, h3, h4, h5, fun j hj => by rw [h6 j hj]; show some (xv ad (f j)) = some (xv ad (g j)); rw [hfg j hj], h7⟩
    · rw [upw_ne e] at hx
      exact ⟨d, hx, rfl, fun _ h => h⟩
  refine kk p e s m args below meth c H locs lsA D ad0 ad A cells slots hC ⟨⟨fun x d hx => ?_, fun x y c1 c2 hx hy exy => ?_⟩, hN.2⟩ hL hk hn
  · obtain ⟨d', g1, g2, g3⟩ := key x d hx
    have := hN.1.1 x d' g1
    exact ⟨g3 _ this.1, fun ho => this.2 (g2.trans ho)⟩
  · obtain ⟨d1, g1, -⟩ := key x c1 hx
    obtain ⟨d2, g2, -⟩ := key y c2 hy
    exact hN.1.2 x y d1 d2 g1 g2 exy
end V11

