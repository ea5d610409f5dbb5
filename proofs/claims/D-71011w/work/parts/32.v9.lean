/-! arraycopy of numbers -/
set_option maxRecDepth 100000
/-- a cell like c but for its monitor and hash -/
def xmo (mo : Monitor) (ha : Option Int32) (c : Cell) : Cell := { c with monitor := mo, hash := ha }
theorem xmo_pairs (mo : Monitor) (ha : Option Int32) (at_ : Nat) : ∀ (xs : List (Value × Nat)) (c : Cell), (xmo mo ha c).storePairs at_ xs = xmo mo ha (c.storePairs at_ xs)
  | [], _ => rfl
  | x :: xs, c => (show (xmo mo ha (c.setSlot (at_ + x.2) x.1)).storePairs at_ xs = xmo mo ha ((c.setSlot (at_ + x.2) x.1).storePairs at_ xs) from xmo_pairs mo ha at_ xs _)
theorem xarr_eq {cell : Cell} {N : Nat} {v : Nat → Value} (h5 : cell.slots.size = N) (h6 : ∀ j, j < N → cell.slots[j]? = some (v j)) (hv : cell.vm = .none) : cell = xmo cell.monitor cell.hash (arrV cell.cls N v) := by
  have e : cell.slots = (arrV cell.cls N v).slots := by
    apply Array.ext_getElem?
    intro j
    by_cases hj : j < N
    · rw [h6 j hj, arrV_read _ _ hj]
    · rw [Array.getElem?_eq_none (by omega), Array.getElem?_eq_none (by rw [arrV_size]; omega)]
  have e2 : (arrV cell.cls N v).vm = .none := rfl
  have e3 : (arrV cell.cls N v).cls = cell.cls := rfl
  unfold xmo
  generalize arrV cell.cls N v = d at e e2 e3
  cases cell
  cases d
  simp_all
section V9
variable {l : Launch} {M : xM} {S : xS} {pc : Nat} {ls : List (Option Value)} {st : List Value} {w : xW} {k n : Nat}
theorem V_copyP {a0 a n0 n1 index : Nat} {b0 : Bool} {ty : FieldType} {f g : Nat → Value} {sp dp N : Int32} (hprim : refKind ty = false) (hd : decode M.2.1 pc = .ok (.invokestatic index, 3)) (hlk : Cond.methodLink M.1 index arraycopyName ∈ lw_all) (hnat : Cond.native arraycopyName ∈ lw_all) (hstat : Cond.static arraycopyName ∈ lw_all) (hini : Cond.initialized "java/lang/System" ∈ lw_all)
    (hw0 : w a0 = some (.inl (ty, b0, n0, f))) (hw : w a = some (.inl (ty, true, n1, g))) (h1 : ¬ sp < 0) (h2 : ¬ dp < 0) (h3 : ¬ N < 0) (h4 : sp.toNatClampNeg + N.toNatClampNeg ≤ n0) (h5 : dp.toNatClampNeg + N.toNatClampNeg ≤ n1) (hfit : ∀ i, i < N.toNatClampNeg → ∃ x, f (sp.toNatClampNeg + i) = .int x ∧ fits ty (.int x) = true)
    (hR : 1 ≤ S.1.frames ∧ 8 + (nativeFrameWords "java/lang/System" "arraycopy" 5 + 11) ≤ S.1.locals) (hcat : (st.map fun v => v.category).sum ≤ 8)
    (kk : V l M S (pc + 3) ls st (upw w a (.inl (ty, true, n1, va_cpy f g sp.toNatClampNeg dp.toNatClampNeg N.toNatClampNeg))) k n) : V l M S pc ls (.int N :: .int dp :: .ref a :: .int sp :: .ref a0 :: st) w k n := by
  intro p e s m args below meth c H locs lsA D ad0 ad A cells slots hC hN hL hk hn
  have hts := hC.2.2.2.2.2.2.1
  obtain ⟨c0, p1, p2, p3, p4, p5, p6, p7⟩ := (hN.1.1 _ _ hw0).1
  obtain ⟨c1, q1, q2, q3, q4, q5, q6, q7⟩ := (hN.1.1 _ _ hw).1
  have hAa : A (ad a) := (hN.1.1 _ _ hw).2 rfl
  obtain ⟨p2a, k0, hk0, cm0, hkk0⟩ := id p2
  obtain ⟨q2a, k1, hk1, cm1, hkk1⟩ := id q2
  have nn : ∀ z : Int32, ¬ z < 0 → z.toInt = (z.toNatClampNeg : Int) := by
    intro z hz
    have hz0 : (0 : Int) ≤ z.toInt := by
      have := Int32.not_lt.mp hz
      simpa using Int32.le_iff_toInt_le.mp this
    show z.toInt = ((z.toInt.toNat : Nat) : Int)
    omega
  intro T hT X
  obtain ⟨vm', X', step⟩ := X.arraycopy hC.1 hC.2.2.2.2.2.1 (hts _ hlk) (hts _ hnat) (hts _ hstat) (hts _ hini) (src := ad a0) (dst := ad a) (cs := c0) (cd := c1) (srcPos := sp) (destPos := dp) (n := N) (by rw [hT]; exact p1) (by rw [hT]; exact q1)
    p2a q2a p3 q3 hk0 hk1 hkk0 hkk1 (by simp [hprim]) h1 h2 h3
    (by rw [nn sp h1, nn N h3, p5]; show ¬ _ > (n0 : Int); omega)
    (by rw [nn dp h2, nn N h3, q5]; show ¬ _ > (n1 : Int); omega)
    (fun vm₁ _ i hi => by
      obtain ⟨x, hx, hf⟩ := hfit i hi
      have e : c0.slots.getD (sp.toNatClampNeg + i) .null = .int x := by
        rw [Array.getD_eq_getD_getElem?, p6 _ (by show _ < n0; omega)]
        show xv ad (f _) = _
        rw [hx]
        rfl
      refine ⟨?_, ?_⟩
      · rw [e]
        exact hf
      · rw [e]
        exact trivial)
    (g := F0 m pc lsA ((Value.int N :: .int dp :: .ref a :: .int sp :: .ref a0 :: st).map (xv ad))) rfl (by rw [hC.2.2.1]; exact hL.1) (rest := st.map (xv ad)) rfl (by rw [hC.2.1]; exact hd) hR.1 (by
      rw [List.map_map, show ((fun v : Value => v.category) ∘ xv ad) = fun v => v.category from funext fun v => xv_cat ad v]
      show 2 * 0 + _ + _ ≤ _
      have := hR.2
      omega)
  have e1 : copied c0 c1 sp dp N = xmo c1.monitor c1.hash (arrV c1.cls n1 (fun j => xv ad (va_cpy f g sp.toNatClampNeg dp.toNatClampNeg N.toNatClampNeg j))) := by
    have e0 := xarr_eq (v := fun j => xv ad (g j)) q5 q6 (q7 rfl).2
    have := va_copiedX (xv ad) c0 c1.cls (n0 := n0) (n1 := n1) (dp := dp.toNatClampNeg) f g p6 h4
    refine Eq.trans ?_ (congrArg (xmo c1.monitor c1.hash) this)
    show Cell.storePairs c1 _ _ = _
    refine (congrArg (fun z => Cell.storePairs z dp.toNatClampNeg ((c0.stretch sp.toNatClampNeg N.toNatClampNeg).zipIdx)) e0).trans ?_
    exact xmo_pairs _ _ _ _ _
  rw [e1] at X' step
  have hl : ad a < H.size := (Array.getElem?_eq_some_iff.mp q1).1
  generalize hcl : xmo c1.monitor c1.hash (arrV c1.cls n1 (fun j => xv ad (va_cpy f g sp.toNatClampNeg dp.toNatClampNeg N.toNatClampNeg j))) = cc at X' step
  have hheap : ((T.setVm vm').setCell (ad a) cc).heap = H.setIfInBounds (ad a) cc := by rw [← hT]; rfl
  have oq : ∀ q : Nat, q ≠ ad a → (H.setIfInBounds (ad a) cc)[q]? = H[q]? := fun q hq => by simp [Array.getElem?_setIfInBounds, Ne.symm hq]
  have es : (H.setIfInBounds (ad a) cc)[ad a]? = some cc := by simp [Array.getElem?_setIfInBounds, hl]
  have hx : xat D ad s (H.setIfInBounds (ad a) cc) (ad a) (.inl (ty, true, n1, va_cpy f g sp.toNatClampNeg dp.toNatClampNeg N.toNatClampNeg)) := by
    subst hcl
    exact ⟨_, es, ⟨(fun q h => by cases h), k1, hk1, cm1, hkk1⟩, (fun h => nomatch h), rfl, arrV_size c1.cls n1 (fun j => xv ad (va_cpy f g sp.toNatClampNeg dp.toNatClampNeg N.toNatClampNeg j)), (fun j hj => arrV_read c1.cls (fun j => xv ad (va_cpy f g sp.toNatClampNeg dp.toNatClampNeg N.toNatClampNeg j)) (show j < n1 from hj)), fun _ => ⟨(q7 rfl).1, rfl⟩⟩
  have hN' : xNow S s D ad0 ad A (upw w a (.inl (ty, true, n1, va_cpy f g sp.toNatClampNeg dp.toNatClampNeg N.toNatClampNeg))) (H.setIfInBounds (ad a) cc) (locs ++ (c0.stretch sp.toNatClampNeg N.toNatClampNeg).zipIdx.map fun q => ⟨ad a, dp.toNatClampNeg + q.2⟩) :=
    ⟨hN.1.set hw (fun _ => hAa) hx oq, ⟨by simp; exact hN.2.1.1, fun q g1 g2 => by
      rw [oq q (fun e => g2 (by rw [e]; exact hAa))]
      exact hN.2.1.2.1 q g1 g2, fun q hq => by
      rcases List.mem_append.mp hq with h | h
      · exact hN.2.1.2.2 q h
      · obtain ⟨z, -, hz⟩ := List.mem_map.mp h
        rw [← hz]
        exact hAa⟩, hN.2.2⟩
  obtain ⟨t, a1, b1⟩ := kk p e s m args below meth c _ _ lsA D ad0 ad A cells slots hC hN' hL hk hn _ hheap X'
  exact ⟨t, step t a1, b1⟩
end V9
