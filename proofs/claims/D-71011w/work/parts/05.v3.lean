/-! V: a contract's start, and calls -/
section V2
def xF0 : Nat → Prop := fun _ => False
def xX0 : String → Nat → xW → Prop := fun _ _ _ => False
/-- a value doesn't name one of F -/
def xok (F : Nat → Prop) (v : Value) : Prop := ∀ n, v = .ref n → ¬ F n
theorem xok0 {v : Value} : xok xF0 v := fun _ _ h => h
theorem xv_ok {F : Nat → Prop} {ad ad' : Nat → Nat} {v : Value} (h : xok F v) (ha : ∀ n, ¬ F n → ad' n = ad n) : xv ad' v = xv ad v := by
  cases v with
  | ref n => exact congrArg Value.ref (ha n (h n rfl))
  | _ => rfl
theorem xl_ok {F : Nat → Prop} {ad ad' : Nat → Nat} {ls : List (Option Value)} (h : ∀ v, some v ∈ ls → xok F v) (ha : ∀ n, ¬ F n → ad' n = ad n) : ∀ q ∈ xl ad' ls, q ∈ xl ad ls := by
  intro q hq
  obtain ⟨v, h1, h2⟩ := xl_mem.mp hq
  exact xl_mem.mpr ⟨v, h1, by rw [h2]; exact xv_ok (h v (List.mem_of_getElem? h1)) ha⟩
theorem xst_ok {F : Nat → Prop} {ad ad' : Nat → Nat} {st : List Value} (h : ∀ v ∈ st, xok F v) (ha : ∀ n, ¬ F n → ad' n = ad n) : st.map (xv ad') = st.map (xv ad) := List.map_congr_left fun v hv => xv_ok (h v hv) ha
/-- the arguments as the locals have them at a method's entry -/
def xargs : List Value → List (Option Value)
  | [] => []
  | v :: vs => if v.category = 2 then some v :: none :: xargs vs else some v :: xargs vs
def xent (n : Nat) (vs : List Value) : List (Option Value) := xargs vs ++ List.replicate (n - (xargs vs).length) none
theorem xargs_len (ad : Nat → Nat) (vs : List Value) : (lg_sl (vs.map (xv ad))).length = (xargs vs).length := by
  induction vs with
  | nil => rfl
  | cons v vs ih =>
    simp only [List.map_cons, lg_sl, List.flatMap_cons, List.length_append, xargs, xv_cat] at ih ⊢
    by_cases h : v.category = 2
    · simp only [h, if_true, List.length_cons, List.length_nil]; omega
    · simp only [h, if_false, List.length_cons, List.length_nil]; omega
theorem xargs_lv (ad : Nat → Nat) : ∀ (vs : List Value) (o i : Nat) (v : Value), (xargs vs)[i]? = some (some v) → (o + i, xv ad v) ∈ lv_args o (vs.map (xv ad))
  | [], o, i, v, h => by simp [xargs] at h
  | u :: vs, o, i, v, h => by
    simp only [List.map_cons, lv_args, xv_cat]
    by_cases hc : u.category = 2
    · simp only [xargs, hc, if_true] at h ⊢
      match i, h with
      | 0, h =>
        cases h
        exact List.mem_cons_self
      | 1, h => cases h
      | i + 2, h =>
        refine List.mem_cons_of_mem _ ?_
        have := xargs_lv ad vs (o + 2) i v h
        rw [show o + (i + 2) = o + 2 + i by omega]
        exact this
    · simp only [xargs, hc, if_false] at h ⊢
      match i, h with
      | 0, h =>
        cases h
        exact List.mem_cons_self
      | i + 1, h =>
        refine List.mem_cons_of_mem _ ?_
        have := xargs_lv ad vs (o + 1) i v h
        rw [show o + (i + 1) = o + 1 + i by omega]
        exact this
theorem xent_has {ad : Nat → Nat} {vs : List Value} {n : Nat} {lsA : Array Slot} (h : lv_has lsA n (lv_args 0 (vs.map (xv ad)))) : lv_has lsA n (xl ad (xent n vs)) := by
  refine xl_has h fun q hq => ?_
  obtain ⟨v, h1, h2⟩ := xl_mem.mp hq
  unfold xent at h1
  by_cases hl : q.1 < (xargs vs).length
  · rw [List.getElem?_append_left hl] at h1
    have := xargs_lv ad vs 0 q.1 v h1
    rw [Nat.zero_add, ← h2] at this
    exact this
  · rw [List.getElem?_append_right (by omega), List.getElem?_replicate] at h1
    split at h1 <;> cases h1
theorem xA_new {w : xW} {ad : Nat → Nat} {sz : Nat} : ∀ q, sz ≤ q → xA w ad sz q := fun _ h => Or.inr h
theorem xRep.self {D : va_G} {ad : Nat → Nat} {w : xW} {A : Nat → Prop} {sz : Nat} {U : State} {H : Heap} (h : xRep D ad w A U H) : xRep D ad w (xA w ad sz) U H :=
  ⟨fun n c hw => ⟨(h.1 n c hw).1, fun ho => Or.inl ⟨n, c, hw, ho, rfl⟩⟩, h.2⟩
/-- a contract from the walk of a body without handlers -/
theorem Cn_start {l : Launch} {y : MethodName} {cc : ByteArray} {nL : Nat} {ret : Option FieldType} {S : xS} {as : List Value} {w : xW} {ls : List (Option Value)} (hy : plainName y.cls = true) (hls : xent nL as = ls) (hlen : (xargs as).length ≤ nL)
    (hF : ∀ n, 900 ≤ n → n < 950 → ¬ S.2.1 n) (h : V l (y.cls, cc, nL, ret, [], y.name) S 0 ls [] w S.1.cells S.1.slots) : Cn l y (ws_ y cc nL ret) S as w := by
  intro D ad sz
  refine vx_ofW (cc := cc) (maxL := nL) (ret := ret) hy rfl ?_
  intro p e s m args below meth c s₁ B hml ht hv
  obtain ⟨rfl, hsz, hRep, hK, hE, hZ⟩ := hv
  have hts := atoms_spec (ws := ws_ y cc nL ret) B.pre
  have hts : ∀ w ∈ lw_all, w.before _ s = true := fun w h => hts w (List.mem_cons_of_mem _ h)
  subst hsz
  have hl := lv_entry (as.map (xv ad)) (n := nL) (by rw [xargs_len]; exact hlen)
  rw [lg_entry_eq]
  subst hls
  exact h p e s m _ below meth c s.heap [] _ D ad ad (xA w ad s.heap.size) 0 0
    ⟨B.exec, B.bytes, hml, B.returns, B.notSynchronized, findClass_of_methodNamed B.named, hts, List.eq_nil_iff_forall_not_mem.mpr fun x hx => ht x hx, (name_of_methodNamed B.named B.method).1, xA_new, hK, hE, hZ, hF⟩
    ⟨hRep, va_S.rf, fun _ _ => rfl⟩ (xent_has hl) (by simp) (by simp)
/-- .. with handlers -/
theorem Cn_startW {l : Launch} {y : MethodName} {cc : ByteArray} {nL : Nat} {ret : Option FieldType} {hh : List (Nat × Nat × Nat × Nat)} {S : xS} {as : List Value} {w : xW} {ls : List (Option Value)} (hy : plainName y.cls = true) (hls : xent nL as = ls) (hlen : (xargs as).length ≤ nL)
    (hF : ∀ n, 900 ≤ n → n < 950 → ¬ S.2.1 n) (h : V l (y.cls, cc, nL, ret, hh, y.name) S 0 ls [] w S.1.cells S.1.slots) : Cn l y (wsW_ y cc nL ret hh) S as w := by
  intro D ad sz
  refine vx_ofWH (cc := cc) (maxL := nL) (ret := ret) (hh := hh) hy rfl ?_
  intro p e s m args below meth c s₁ B hml hv
  obtain ⟨rfl, hsz, hRep, hK, hE, hZ⟩ := hv
  have hts0 := atoms_spec (ws := wsW_ y cc nL ret hh) B.pre
  have hts : ∀ w ∈ lw_all, w.before _ s = true := fun w h => hts0 w (List.mem_cons_of_mem _ h)
  subst hsz
  have hl := lv_entry (as.map (xv ad)) (n := nL) (by rw [xargs_len]; exact hlen)
  rw [lg_entry_eq]
  subst hls
  exact h p e s m _ below meth c s.heap [] _ D ad ad (xA w ad s.heap.size) 0 0
    ⟨B.exec, B.bytes, hml, B.returns, B.notSynchronized, findClass_of_methodNamed B.named, hts, vx_table (x := y) B (hts0 _ List.mem_cons_self), (name_of_methodNamed B.named B.method).1, xA_new, hK, hE, hZ, hF⟩
    ⟨hRep, va_S.rf, fun _ _ => rfl⟩ (xent_has hl) (by simp) (by simp)
theorem xPc_blind {D : va_G} {ad : Nat → Nat} {w : xW} {as : List Value} {sz : Nat} : FrameBlind (xPc D ad w as sz) := by
  intro a U g mk q
  obtain ⟨q0, q1, qR, qK, qE, qZ⟩ := q
  exact ⟨q0, q1, qR.moved (U := U.calling g mk a) (Vm.Alike.refl U.vm), va_K.moved (u := U) (U := U.calling g mk a) (Vm.Alike.refl U.vm) qK, xEnv.same (u := U) (U := U.calling g mk a) rfl qE, qZ.same (u := U) (U := U.calling g mk a) rfl⟩
section R
variable {l : Launch} {M : xM} {S S' : xS} {pc : Nat} {ls : List (Option Value)} {st stk : List Value} {w : xW} {k n k' n' : Nat}
variable {p : Program} {e : Env} {s : State} {m : MethodId} {args : Array Value} {below : List Frame} {meth : Method} {c : Code} {H : Heap} {locs : List Loc} {lsA : Array Slot} {D : va_G} {ad0 ad : Nat → Nat} {A : Nat → Prop} {cells slots : Nat}
theorem xA_sub (hC : xCtx M S p s m args meth c D ad0 A) (hN : xNow S s D ad0 ad A w H locs) : ∀ q, xA w ad H.size q → A q := by
  intro q h
  rcases h with ⟨n, c, h1, h2, rfl⟩ | h
  · exact (hN.1.1 n c h1).2 h2
  · exact hC.2.2.2.2.2.2.2.2.2.1 q (Nat.le_trans hN.2.1.1 h)
/-- what a callee finds -/
theorem xPre (hC : xCtx M S p s m args meth c D ad0 A) (hN : xNow S s D ad0 ad A w H locs) (as : List Value) {U : State} (hU : U.heap = H) (hW : s.WarmedH U.vm) : xPc D ad w as H.size (as.map (xv ad)).toArray U := by
  obtain ⟨-, -, -, -, -, -, -, -, -, -, hK, hE, hZ, hF⟩ := id hC
  refine ⟨rfl, by rw [hU], ?_, va_K.moved hW.alike hK, hE.warm hW, ?_⟩
  · rw [hU]
    exact (hN.1.self).moved hW.alike
  · rw [hU]
    exact (((hZ.kept hN.2.1.2.1).warm hW).narrow (xA_sub hC hN)).ad (fun n h1 h2 => hN.2.2 n (hF n h1 h2))
theorem xAfter (hC : xCtx M S p s m args meth c D ad0 A) (hN : xNow S s D ad0 ad A w H locs) {st₀ t T' : State} {L : List Loc} {w' : xW} {ad' : Nat → Nat} (h0 : st₀.heap = H) (e1 : T'.heap = t.heap) (e2 : T'.vm = t.vm) (hW : s.WarmedH T'.vm) (hL : ∀ q ∈ L, xA w ad H.size q.base)
    (hR : xRep D ad' w' (xA w ad H.size) t t.heap) (hFr : va_F (xA w ad H.size) st₀ t) (hF : ∀ n, S'.2.1 n → S.2.1 n) (ha : ∀ n, ¬ S'.2.1 n → ad' n = ad n) : xNow S s D ad0 ad' A w' T'.heap (locs ++ L) := by
  obtain ⟨k1, k2, k3⟩ := vx_keep h0 e1 hN.2.1 (fun q _ h => xA_sub hC hN q h) (xA_sub hC hN) hL hFr
  have hal : s.vm.Alike t.vm := by rw [← e2]; exact hW.alike
  have hR1 := hR.moved hal.symm
  rw [← e1] at hR1
  exact ⟨⟨fun n c h => ⟨(hR1.1 n c h).1, fun ho => xA_sub hC hN _ ((hR1.1 n c h).2 ho)⟩, hR1.2⟩, k3, fun n hn => (ha n (fun z => hn (hF n z))).trans (hN.2.2 n hn)⟩
/-- behind a call's run -/
theorem xRun {a : Array Value} (hC : xCtx M S p s m args meth c D ad0 A) (hN : xNow S s D ad0 ad A w H locs) (hL : lv_has lsA M.2.2.1 (xl ad ls)) (hk : cells + k ≤ S.1.cells) (hn : slots + n ≤ S.1.slots)
    (hr : vx_Run p l e S.1 s m args below meth c H locs cells slots S'.1.cells S'.1.slots (F0 m pc lsA (stk.map (xv ad))) (st.map (xv ad)) (xQc D S' ad (xA w ad H.size) a) (xXC D S' ad (xA w ad H.size)) (xA w ad H.size))
    (hk' : S'.1.cells + k' ≤ k) (hn' : S'.1.slots + n' ≤ n) (hF : ∀ n, S'.2.1 n → S.2.1 n) (hfl : ∀ v, some v ∈ ls → xok S'.2.1 v) (hfs : ∀ v ∈ st, xok S'.2.1 v)
    (kk : ∀ (r : Option Value) (w' : xW), S'.2.2.1 r w' → V l M S (pc + 3) ls (r.toList ++ st) w' k' n') (kx : ∀ (E : String) (q : Nat) (w' : xW), S'.2.2.2 E q w' → Vx l M S pc ls st E q w' k' n') :
    W p l e S.1 s m args below meth c H locs cells slots (vx_MQ below (xQc D S ad0 A) (xXC D S ad0 A) args s S.1.cells S.1.slots A) (F0 m pc lsA (stk.map (xv ad))) := by
  intro T hT X
  rcases hr T hT X with ⟨v, st₀, t, T', L, h0, X', hLo, e1, e2, ⟨⟨r, w', ad', hv, hq, ha, hR⟩, hFr⟩, st9⟩ | ⟨q, st₀, t, T', L, E, ce, h0, X', hLo, e1, e2, ⟨⟨qn, w', ad', hqn, hq, ha, hR⟩, hFr⟩, hce, hcv, hcl, st9⟩
  · have hv' : v = r.map (xv ad') := by cases hv; rfl
    have hN' := xAfter (S' := S') hC hN h0 e1 e2 X'.warmed hLo hR hFr hF ha
    obtain ⟨t2, a1, b1⟩ := kk r w' hq p e s m args below meth c T'.heap (locs ++ L) lsA D ad0 ad' A (cells + S'.1.cells) (slots + S'.1.slots) hC hN' (xl_has hL (xl_ok hfl ha)) (by omega) (by omega) T' rfl X'
    refine ⟨t2, st9 t2 ?_, b1⟩
    rw [hv']
    have e9 : (r.toList ++ st).map (xv ad') = (r.map (xv ad')).toList ++ st.map (xv ad) := by
      rw [List.map_append, xst_ok hfs ha]
      cases r <;> rfl
    rw [e9] at a1
    exact a1
  · have hN' := xAfter (S' := S') hC hN h0 e1 e2 X'.warmed hLo hR hFr hF ha
    obtain ⟨t2, a1, b1⟩ := kx E qn w' hq p e s m args below meth c T'.heap (locs ++ L) lsA D ad0 ad' A (cells + S'.1.cells) (slots + S'.1.slots) ce hC hN' (xl_has hL (xl_ok hfl ha)) (by omega) (by omega) (by rw [e1, hqn]; exact hce) hcv hcl T' rfl X'
    refine ⟨t2, st9.trans ?_, b1⟩
    rw [xst_ok hfs ha, hqn] at a1
    exact a1
/-- an object of the world, as the machine's receiver -/
theorem xRecv {ci b : Nat} {ow : Bool} {fs : List Value} {r : vw_C} (hC : xCtx M S p s m args meth c D ad0 A) (hN : xNow S s D ad0 ad A w H locs) (hb : w b = some (.inr (ci, ow, fs))) (hci : CL[ci]? = some r) : ∃ cell : Cell, H[ad b]? = some cell ∧ cell.vm.isStatics = false ∧ s.vm.findClass r.1 = some cell.cls := by
  obtain ⟨r', cell, h1, h2, h3, -, h5, -⟩ := (hN.1.1 _ _ hb).1
  cases h1.symm.trans hci
  exact ⟨cell, h2, h5, by rw [h3]; exact (hC.2.2.2.2.2.2.2.2.2.2.1.1 ci r hci).2.1⟩
theorem xrest {As : List Value} {b : Nat} (hst : stk = As.reverse ++ .ref b :: st) : stk.map (xv ad) = (As.map (xv ad)).reverse ++ .ref (ad b) :: st.map (xv ad) := by
  rw [hst, List.map_append, List.map_reverse]; rfl
theorem xcat (h : (st.map fun v => v.category).sum ≤ 8) : 2 * (F0 m pc lsA (stk.map (xv ad))).monitorRoom + ((st.map (xv ad)).map fun v => v.category).sum ≤ 8 := by
  rw [List.map_map, show ((fun v : Value => v.category) ∘ xv ad) = fun v => v.category from funext fun v => xv_cat ad v]
  exact lv_room h
theorem xfix (hC : xCtx M S p s m args meth c D ad0 A) : CallFix p m c M.2.1 M.2.2.1 s args lw_all M.1 := ⟨hC.1, hC.2.1, hC.2.2.1, hC.2.2.2.2.2.1, hC.2.2.2.2.2.2.1⟩
end R
section C
variable {l : Launch} {M : xM} {S S' : xS} {pc : Nat} {ls : List (Option Value)} {st stk : List Value} {w : xW} {k n k' n' : Nat}
variable {y : MethodName} {cc : ByteArray} {nL : Nat} {ret : Option FieldType} {As : List Value} {b : Nat} {C : String} {index ci : Nat} {ow : Bool} {fs : List Value} {r0 : vw_C} {hh : List (Nat × Nat × Nat × Nat)}
/-- what a call asks of the room -/
def xfit (S S' : xS) (nL k n k' n' : Nat) : Prop := (S'.1.frames + 1 ≤ S.1.frames ∧ 8 + (nL + 11) + S'.1.locals ≤ S.1.locals) ∧ S'.1.cells + k' ≤ k ∧ S'.1.slots + n' ≤ n
theorem V_callV (hM : Cn l y (ws_ y cc nL ret) S' (.ref b :: As) w) (hd : decode M.2.1 pc = .ok (.invokevirtual index, 3)) (hG : GoodIn lw_all (wsV M.1 index C y (ws_ y cc nL ret)))
    (hy : y.cls = C ∧ y.cls ≠ "java/lang/invoke/MethodHandle" ∧ y.cls ≠ "java/lang/invoke/VarHandle" ∧ (parseMethodDescriptor y.desc).map (fun d => d.parameters.length) = some As.length)
    (hR : xfit S S' nL k n k' n') (hb : w b = some (.inr (ci, ow, fs))) (hci : CL[ci]? = some r0) (hr0 : r0.1 = C) (hst : stk = As.reverse ++ .ref b :: st) (hcat : (st.map fun v => v.category).sum ≤ 8)
    (hF : ∀ n, S'.2.1 n → S.2.1 n) (hfl : ∀ v, some v ∈ ls → xok S'.2.1 v) (hfs : ∀ v ∈ st, xok S'.2.1 v)
    (kk : ∀ (r : Option Value) (w' : xW), S'.2.2.1 r w' → V l M S (pc + 3) ls (r.toList ++ st) w' k' n') (kx : ∀ (E : String) (q : Nat) (w' : xW), S'.2.2.2 E q w' → Vx l M S pc ls st E q w' k' n') : V l M S pc ls stk w k n := by
  intro p e s m args below meth c H locs lsA D ad0 ad A cells slots hC hN hL hk hn
  have hrc := xRecv hC hN hb hci
  rw [hr0] at hrc
  refine xRun (S' := S') (st := st) (a := (Value.ref (ad b) :: As.map (xv ad)).toArray) hC hN hL hk hn (vx_runV (As := As.map (xv ad)) (rest := st.map (xv ad)) (xfix hC) (hM D ad H.size) (cwV As.length hC.2.2.2.2.2.2.1 hG rfl rfl rfl hy hR.1) ⟨xPc_blind, hrc, fun U hU hW => xPre hC hN _ hU hW⟩ rfl (List.length_map _) hL.1 (xrest hst) (xcat hcat) hd ⟨?_, ?_⟩) hR.2.1 hR.2.2 hF hfl hfs kk kx
  · have := hR.2.1; omega
  · have := hR.2.2; omega
theorem V_callVW (hM : Cn l y (wsW_ y cc nL ret hh) S' (.ref b :: As) w) (hd : decode M.2.1 pc = .ok (.invokevirtual index, 3)) (hG : GoodIn lw_all (wsV M.1 index C y (wsW_ y cc nL ret hh)))
    (hy : y.cls = C ∧ y.cls ≠ "java/lang/invoke/MethodHandle" ∧ y.cls ≠ "java/lang/invoke/VarHandle" ∧ (parseMethodDescriptor y.desc).map (fun d => d.parameters.length) = some As.length)
    (hR : xfit S S' nL k n k' n') (hb : w b = some (.inr (ci, ow, fs))) (hci : CL[ci]? = some r0) (hr0 : r0.1 = C) (hst : stk = As.reverse ++ .ref b :: st) (hcat : (st.map fun v => v.category).sum ≤ 8)
    (hF : ∀ n, S'.2.1 n → S.2.1 n) (hfl : ∀ v, some v ∈ ls → xok S'.2.1 v) (hfs : ∀ v ∈ st, xok S'.2.1 v)
    (kk : ∀ (r : Option Value) (w' : xW), S'.2.2.1 r w' → V l M S (pc + 3) ls (r.toList ++ st) w' k' n') (kx : ∀ (E : String) (q : Nat) (w' : xW), S'.2.2.2 E q w' → Vx l M S pc ls st E q w' k' n') : V l M S pc ls stk w k n := by
  intro p e s m args below meth c H locs lsA D ad0 ad A cells slots hC hN hL hk hn
  have hrc := xRecv hC hN hb hci
  rw [hr0] at hrc
  refine xRun (S' := S') (st := st) (a := (Value.ref (ad b) :: As.map (xv ad)).toArray) hC hN hL hk hn (vx_runVX (As := As.map (xv ad)) (rest := st.map (xv ad)) (xfix hC) (hM D ad H.size) (vx_cwVW As.length hC.2.2.2.2.2.2.1 hG rfl rfl rfl hy hR.1) ⟨xPc_blind, hrc, fun U hU hW => xPre hC hN _ hU hW⟩ rfl (List.length_map _) hL.1 (xrest hst) (xcat hcat) hd ⟨?_, ?_⟩) hR.2.1 hR.2.2 hF hfl hfs kk kx
  · have := hR.2.1; omega
  · have := hR.2.2; omega
theorem V_callS (hM : Cn l y (ws_ y cc nL ret) S' As w) (hd : decode M.2.1 pc = .ok (.invokestatic index, 3)) (hG : GoodIn lw_all (va_wsS M.1 index y (ws_ y cc nL ret)))
    (hy : y.cls ≠ "java/lang/invoke/MethodHandle" ∧ y.cls ≠ "java/lang/invoke/VarHandle" ∧ (parseMethodDescriptor y.desc).map (fun d => d.parameters.length) = some As.length)
    (hR : xfit S S' nL k n k' n') (hst : stk = As.reverse ++ st) (hcat : (st.map fun v => v.category).sum ≤ 8)
    (hF : ∀ n, S'.2.1 n → S.2.1 n) (hfl : ∀ v, some v ∈ ls → xok S'.2.1 v) (hfs : ∀ v ∈ st, xok S'.2.1 v)
    (kk : ∀ (r : Option Value) (w' : xW), S'.2.2.1 r w' → V l M S (pc + 3) ls (r.toList ++ st) w' k' n') (kx : ∀ (E : String) (q : Nat) (w' : xW), S'.2.2.2 E q w' → Vx l M S pc ls st E q w' k' n') : V l M S pc ls stk w k n := by
  intro p e s m args below meth c H locs lsA D ad0 ad A cells slots hC hN hL hk hn
  refine xRun (S' := S') (st := st) (a := (As.map (xv ad)).toArray) hC hN hL hk hn (vx_runS (As := As.map (xv ad)) (rest := st.map (xv ad)) (xfix hC) (hM D ad H.size) (va_cwS As.length hC.2.2.2.2.2.2.1 hG rfl rfl rfl hy hR.1) ⟨xPc_blind, fun U hU hW => xPre hC hN _ hU hW⟩ rfl (List.length_map _) hL.1 (by rw [hst, List.map_append, List.map_reverse]) (xcat hcat) hd ⟨?_, ?_⟩) hR.2.1 hR.2.2 hF hfl hfs kk kx
  · have := hR.2.1; omega
  · have := hR.2.2; omega
theorem V_callI (hM : Cn l y (ws_ y cc nL none) S' (.ref b :: As) w) (hd : decode M.2.1 pc = .ok (.invokespecial index, 3)) (hG : Cond.code y cc nL none ∈ lw_all) (hini : Cond.initialized y.cls ∈ lw_all) (hlk : Cond.methodLink M.1 index y ∈ lw_all) (him : Cond.instanceMethod y ∈ lw_all) (hnm : y.name = "<init>")
    (hy : y.cls ≠ "java/lang/invoke/MethodHandle" ∧ y.cls ≠ "java/lang/invoke/VarHandle" ∧ (parseMethodDescriptor y.desc).map (fun d => d.parameters.length) = some As.length)
    (hR : xfit S S' nL k n k' n') (hst : stk = As.reverse ++ .ref b :: st) (hcat : (st.map fun v => v.category).sum ≤ 8)
    (hF : ∀ n, S'.2.1 n → S.2.1 n) (hfl : ∀ v, some v ∈ ls → xok S'.2.1 v) (hfs : ∀ v ∈ st, xok S'.2.1 v)
    (kk : ∀ (r : Option Value) (w' : xW), S'.2.2.1 r w' → V l M S (pc + 3) ls (r.toList ++ st) w' k' n') (kx : ∀ (E : String) (q : Nat) (w' : xW), S'.2.2.2 E q w' → Vx l M S pc ls st E q w' k' n') : V l M S pc ls stk w k n := by
  intro p e s m args below meth c H locs lsA D ad0 ad A cells slots hC hN hL hk hn
  have hts := hC.2.2.2.2.2.2.1
  refine xRun (S' := S') (st := st) (a := (Value.ref (ad b) :: As.map (xv ad)).toArray) hC hN hL hk hn (vx_runI (As := As.map (xv ad)) (rest := st.map (xv ad)) (xfix hC) (hM D ad H.size) (cwI As.length hts (lw_meth hG) rfl rfl rfl (hts _ hini) (hts _ hlk) (hts _ him) hnm hy hR.1) ⟨xPc_blind, fun U hU hW => xPre hC hN _ hU hW⟩ rfl (List.length_map _) hL.1 (xrest hst) (xcat hcat) hd ⟨?_, ?_⟩) hR.2.1 hR.2.2 hF hfl hfs kk kx
  · have := hR.2.1; omega
  · have := hR.2.2; omega
/-- calls of methods that neither throw nor rename -/
theorem V_callV0 {rm : Room} {Q : Option Value → xW → Prop} (hM : Cn l y (ws_ y cc nL ret) (rm, xF0, Q, xX0) (.ref b :: As) w) (hd : decode M.2.1 pc = .ok (.invokevirtual index, 3)) (hG : GoodIn lw_all (wsV M.1 index C y (ws_ y cc nL ret)))
    (hy : y.cls = C ∧ y.cls ≠ "java/lang/invoke/MethodHandle" ∧ y.cls ≠ "java/lang/invoke/VarHandle" ∧ (parseMethodDescriptor y.desc).map (fun d => d.parameters.length) = some As.length)
    (hR : xfit S (rm, xF0, Q, xX0) nL k n k' n') (hb : w b = some (.inr (ci, ow, fs))) (hci : CL[ci]? = some r0) (hr0 : r0.1 = C) (hst : stk = As.reverse ++ .ref b :: st) (hcat : (st.map fun v => v.category).sum ≤ 8)
    (kk : ∀ (r : Option Value) (w' : xW), Q r w' → V l M S (pc + 3) ls (r.toList ++ st) w' k' n') : V l M S pc ls stk w k n :=
  V_callV hM hd hG hy hR hb hci hr0 hst hcat (fun _ h => h.elim) (fun _ _ => xok0) (fun _ _ => xok0) kk (fun _ _ _ h => h.elim)
theorem V_callS0 {rm : Room} {Q : Option Value → xW → Prop} (hM : Cn l y (ws_ y cc nL ret) (rm, xF0, Q, xX0) As w) (hd : decode M.2.1 pc = .ok (.invokestatic index, 3)) (hG : GoodIn lw_all (va_wsS M.1 index y (ws_ y cc nL ret)))
    (hy : y.cls ≠ "java/lang/invoke/MethodHandle" ∧ y.cls ≠ "java/lang/invoke/VarHandle" ∧ (parseMethodDescriptor y.desc).map (fun d => d.parameters.length) = some As.length)
    (hR : xfit S (rm, xF0, Q, xX0) nL k n k' n') (hst : stk = As.reverse ++ st) (hcat : (st.map fun v => v.category).sum ≤ 8)
    (kk : ∀ (r : Option Value) (w' : xW), Q r w' → V l M S (pc + 3) ls (r.toList ++ st) w' k' n') : V l M S pc ls stk w k n :=
  V_callS hM hd hG hy hR hst hcat (fun _ h => h.elim) (fun _ _ => xok0) (fun _ _ => xok0) kk (fun _ _ _ h => h.elim)
end C
end V2
