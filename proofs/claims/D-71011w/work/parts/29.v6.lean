/-! MORE CALLS, THROWS AND CATCHES -/
set_option maxRecDepth 100000
section V6
variable {l : Launch} {M : xM} {S S' : xS} {pc : Nat} {ls : List (Option Value)} {st stk : List Value} {w : xW} {k n k' n' : Nat}
variable {x y : MethodName} {cc : ByteArray} {nL : Nat} {ret : Option FieldType} {As : List Value} {b : Nat} {C owner : String} {index : Nat} {hh : List (Nat × Nat × Nat × Nat)}
/-- a method that the receiver's class inherits (or its own, by another name) -/
theorem V_callU (hM : Cn l y (ws_ y cc nL ret) S' (.ref b :: As) w) (hd : decode M.2.1 pc = .ok (.invokevirtual index, 3)) (hG : GoodIn lw_all (va_wsU M.1 index C owner x y (ws_ y cc nL ret))) (hyx : y = ⟨owner, x.name, x.desc⟩)
    (hy : owner ≠ "java/lang/invoke/MethodHandle" ∧ owner ≠ "java/lang/invoke/VarHandle" ∧ (parseMethodDescriptor x.desc).map (fun d => d.parameters.length) = some As.length)
    (hR : xfit S S' nL k n k' n') (hb : xIs w b C) (hst : stk = As.reverse ++ .ref b :: st) (hcat : (st.map fun v => v.category).sum ≤ 8)
    (hF : ∀ n, S'.2.1 n → S.2.1 n) (hfl : ∀ v, some v ∈ ls → xok S'.2.1 v) (hfs : ∀ v ∈ st, xok S'.2.1 v)
    (kk : ∀ (r : Option Value) (w' : xW), S'.2.2.1 r w' → V l M S (pc + 3) ls (r.toList ++ st) w' k' n') (kx : ∀ (E : String) (q : Nat) (w' : xW), S'.2.2.2 E q w' → Vx l M S pc ls st E q w' k' n') : V l M S pc ls stk w k n := by
  intro p e s m args below meth c H locs lsA D ad0 ad A cells slots hC hN hL hk hn
  refine xRun (S' := S') (st := st) (a := (Value.ref (ad b) :: As.map (xv ad)).toArray) hC hN hL hk hn (vx_runU (As := As.map (xv ad)) (rest := st.map (xv ad)) (xfix hC) (hM D ad H.size) (va_cwU As.length hC.2.2.2.2.2.2.1 hG rfl rfl rfl hyx hy hR.1) ⟨xPc_blind, xIs_recv hC hN hb, fun U hU hW => xPre hC hN _ hU hW⟩ rfl (List.length_map _) hL.1 (xrest hst) (xcat hcat) hd ⟨?_, ?_⟩) hR.2.1 hR.2.2 hF hfl hfs kk kx
  · have := hR.2.1; omega
  · have := hR.2.2; omega
/-- a method that the receiver's class has instead of the one named -/
theorem V_callO {b0 : ByteArray} {m0 : Nat} {r0 : Option FieldType} (hM : Cn l y (ws_ y cc nL ret) S' (.ref b :: As) w) (hd : decode M.2.1 pc = .ok (.invokevirtual index, 3)) (hG : GoodIn lw_all (va_wsO M.1 index C owner x y (ws_ y cc nL ret))) (h0 : Cond.code ⟨owner, x.name, x.desc⟩ b0 m0 r0 ∈ lw_all)
    (hy : owner ≠ "java/lang/invoke/MethodHandle" ∧ owner ≠ "java/lang/invoke/VarHandle" ∧ (parseMethodDescriptor x.desc).map (fun d => d.parameters.length) = some As.length)
    (hR : xfit S S' nL k n k' n') (hb : xIs w b C) (hst : stk = As.reverse ++ .ref b :: st) (hcat : (st.map fun v => v.category).sum ≤ 8)
    (hF : ∀ n, S'.2.1 n → S.2.1 n) (hfl : ∀ v, some v ∈ ls → xok S'.2.1 v) (hfs : ∀ v ∈ st, xok S'.2.1 v)
    (kk : ∀ (r : Option Value) (w' : xW), S'.2.2.1 r w' → V l M S (pc + 3) ls (r.toList ++ st) w' k' n') (kx : ∀ (E : String) (q : Nat) (w' : xW), S'.2.2.2 E q w' → Vx l M S pc ls st E q w' k' n') : V l M S pc ls stk w k n := by
  intro p e s m args below meth c H locs lsA D ad0 ad A cells slots hC hN hL hk hn
  refine xRun (S' := S') (st := st) (a := (Value.ref (ad b) :: As.map (xv ad)).toArray) hC hN hL hk hn (vx_runU (As := As.map (xv ad)) (rest := st.map (xv ad)) (xfix hC) (hM D ad H.size) (va_cwO As.length hC.2.2.2.2.2.2.1 hG rfl rfl rfl h0 hy hR.1) ⟨xPc_blind, xIs_recv hC hN hb, fun U hU hW => xPre hC hN _ hU hW⟩ rfl (List.length_map _) hL.1 (xrest hst) (xcat hcat) hd ⟨?_, ?_⟩) hR.2.1 hR.2.2 hF hfl hfs kk kx
  · have := hR.2.1; omega
  · have := hR.2.2; omega
/-- super.m(..) -/
theorem V_callSU {ci : Nat} {ow : Bool} {fs : List Value} {r1 : vw_C} (hM : Cn l y (ws_ y cc nL ret) S' (.ref b :: As) w) (hd : decode M.2.1 pc = .ok (.invokespecial index, 3)) (hG : GoodIn lw_all (va_wsSU M.1 index y (ws_ y cc nL ret)))
    (hy : y.name ≠ "<init>" ∧ (parseMethodDescriptor y.desc).map (fun d => d.parameters.length) = some As.length)
    (hR : xfit S S' nL k n k' n') (hb : w b = some (.inr (ci, ow, fs))) (hci : CL[ci]? = some r1) (hst : stk = As.reverse ++ .ref b :: st) (hcat : (st.map fun v => v.category).sum ≤ 8)
    (hF : ∀ n, S'.2.1 n → S.2.1 n) (hfl : ∀ v, some v ∈ ls → xok S'.2.1 v) (hfs : ∀ v ∈ st, xok S'.2.1 v)
    (kk : ∀ (r : Option Value) (w' : xW), S'.2.2.1 r w' → V l M S (pc + 3) ls (r.toList ++ st) w' k' n') (kx : ∀ (E : String) (q : Nat) (w' : xW), S'.2.2.2 E q w' → Vx l M S pc ls st E q w' k' n') : V l M S pc ls stk w k n := by
  intro p e s m args below meth c H locs lsA D ad0 ad A cells slots hC hN hL hk hn
  have hat : ClassAt s r1.1 (D.1 ci) := (hC.2.2.2.2.2.2.2.2.2.2.1.1 ci r1 hci).2
  refine xRun (S' := S') (st := st) (a := (Value.ref (ad b) :: As.map (xv ad)).toArray) hC hN hL hk hn (vx_runSU (As := As.map (xv ad)) (rest := st.map (xv ad)) hat (xfix hC) (hM D ad H.size) (va_cwSU As.length hC.2.2.2.2.2.2.1 hG rfl rfl rfl hy hR.1) ⟨xPc_blind, xRecv hC hN hb hci, fun U hU hW => xPre hC hN _ hU hW⟩ rfl (List.length_map _) hL.1 (xrest hst) (xcat hcat) hd ⟨?_, ?_⟩) hR.2.1 hR.2.2 hF hfl hfs kk kx
  · have := hR.2.1; omega
  · have := hR.2.2; omega
/-- a nestmate's private constructor -/
theorem V_callIN {host : String} (hM : Cn l y (ws_ y cc nL none) S' (.ref b :: As) w) (hd : decode M.2.1 pc = .ok (.invokespecial index, 3)) (hG : GoodIn lw_all (ws_ y cc nL none)) (hini : Cond.initialized y.cls ∈ lw_all) (hlk : Cond.methodLinkNest M.1 index y host ∈ xNw) (him : Cond.instanceMethod y ∈ lw_all) (hnm : y.name = "<init>")
    (hy : y.cls ≠ "java/lang/invoke/MethodHandle" ∧ y.cls ≠ "java/lang/invoke/VarHandle" ∧ (parseMethodDescriptor y.desc).map (fun d => d.parameters.length) = some As.length)
    (hR : xfit S S' nL k n k' n') (hst : stk = As.reverse ++ .ref b :: st) (hcat : (st.map fun v => v.category).sum ≤ 8)
    (hF : ∀ n, S'.2.1 n → S.2.1 n) (hfl : ∀ v, some v ∈ ls → xok S'.2.1 v) (hfs : ∀ v ∈ st, xok S'.2.1 v)
    (kk : ∀ (r : Option Value) (w' : xW), S'.2.2.1 r w' → V l M S (pc + 3) ls (r.toList ++ st) w' k' n') (kx : ∀ (E : String) (q : Nat) (w' : xW), S'.2.2.2 E q w' → Vx l M S pc ls st E q w' k' n') : V l M S pc ls stk w k n := by
  intro p e s m args below meth c H locs lsA D ad0 ad A cells slots hC hN hL hk hn
  have hts := hC.2.2.2.2.2.2.1
  have hE := hC.2.2.2.2.2.2.2.2.2.2.2.1
  refine xRun (S' := S') (st := st) (a := (Value.ref (ad b) :: As.map (xv ad)).toArray) hC hN hL hk hn (vx_runIN (As := As.map (xv ad)) (rest := st.map (xv ad)) (xfix hC) (hM D ad H.size) ⟨va_cnB As.length hts hG rfl rfl rfl (hE.1 _ hlk) (hts _ hini) hy hR.1, hnm, hts _ him⟩ ⟨xPc_blind, fun U hU hW => xPre hC hN _ hU hW⟩ rfl (List.length_map _) hL.1 (xrest hst) (xcat hcat) hd ⟨?_, ?_⟩) hR.2.1 hR.2.2 hF hfl hfs kk kx
  · have := hR.2.1; omega
  · have := hR.2.2; omega
/-- throw -/
theorem V_athrow {q ci : Nat} {fs : List Value} {r1 : vw_C} {E : String} (hd : decode M.2.1 pc = .ok (.athrow, 1)) (hq : w q = some (.inr (ci, true, fs))) (hci : CL[ci]? = some r1) (hE : r1.1 = E) (kk : Vx l M S pc ls st E q w k n) : V l M S pc ls (.ref q :: st) w k n := by
  intro p e s m args below meth c H locs lsA D ad0 ad A cells slots hC hN hL hk hn
  obtain ⟨r', cell, h1, h2, h3, h4, h5, h6, -⟩ := (hN.1.1 _ _ hq).1
  cases h1.symm.trans hci
  refine vx_athrow hC.1 hC.2.1 hd ?_
  exact kk p e s m args below meth c H locs lsA D ad0 ad A cells slots cell hC hN hL hk hn h2 (h6 rfl) (by rw [← hE, h3]; exact (hC.2.2.2.2.2.2.2.2.2.2.1.1 ci r1 hci).2.1)
/-- it leaves the method: no handler covers pc, or those that do take another class -/
theorem Vx_out {E : String} {q : Nat} (hout : ∀ z ∈ tableOf M.2.2.2.2.1, covers z pc = false ∨ (z.catchType ≠ 0 ∧ ∃ nm : String, Cond.classLink M.1 z.catchType nm ∈ lw_all ∧ (E, nm) ∈ xNc)) (hq : S.2.2.2 E q w) : Vx l M S pc ls st E q w k n := by
  intro p e s m args below meth c H locs lsA D ad0 ad A cells slots ce hC hN hL hk hn h1 h2 h3
  have hE := hC.2.2.2.2.2.2.2.2.2.2.2.1
  refine vx_outP (own := M.1) (E := E) (ce := ce) hC.2.2.2.2.2.1 hC.2.2.2.2.1 (fun z hz => ?_) h1 h2 h3 (fun t ht hal => ⟨⟨q, w, ad, rfl, hq, hN.2.2, by rw [ht]; exact hN.1.moved hal⟩, hN.2.1.F ht⟩) hN.2.1.2.2 (Nat.le_trans (Nat.le_add_right _ _) hk) (Nat.le_trans (Nat.le_add_right _ _) hn)
  rw [hC.2.2.2.2.2.2.2.1] at hz
  rcases hout z hz with h | ⟨g1, nm, g2, g3⟩
  · exact .inl h
  · exact .inr ⟨g1, nm, hC.2.2.2.2.2.2.1 _ g2, hE.2.1 _ g3⟩
/-- it is caught -/
theorem Vx_catch {E name : String} {q tgt : Nat} (pre : List ExceptionTableEntry) (z : ExceptionTableEntry) (suf : List ExceptionTableEntry) (hsplit : tableOf M.2.2.2.2.1 = pre ++ z :: suf)
    (hpass : ∀ z ∈ pre, covers z pc = false ∨ (z.catchType ≠ 0 ∧ ∃ nm : String, Cond.classLink M.1 z.catchType nm ∈ lw_all ∧ (E, nm) ∈ xNc)) (hx : covers z pc = true) (h0 : z.catchType ≠ 0) (hlink : Cond.classLink M.1 z.catchType name ∈ lw_all) (hcast : Cond.castable E name ∈ xNw) (ht : z.handlerPc = tgt)
    (kk : V l M S tgt ls [.ref q] w k n) : Vx l M S pc ls st E q w k n := by
  intro p e s m args below meth c H locs lsA D ad0 ad A cells slots ce hC hN hL hk hn h1 h2 h3
  have hE := hC.2.2.2.2.2.2.2.2.2.2.2.1
  have hts := hC.2.2.2.2.2.2.1
  refine vx_catch (own := M.1) (name := name) (E := E) (ce := ce) hC.2.2.2.2.2.1 pre z suf (by rw [hC.2.2.2.2.2.2.2.1]; exact hsplit) (fun z hz => ?_) hx h0 (hts _ hlink) (va_Nw.use rfl (hE.1 _ hcast)) h1 h2 h3 ?_
  · rcases hpass z hz with h | ⟨g1, nm, g2, g3⟩
    · exact .inl h
    · exact .inr ⟨g1, nm, hts _ g2, hE.2.1 _ g3⟩
  · rw [ht]
    exact kk p e s m args below meth c H locs lsA D ad0 ad A cells slots hC hN hL hk hn
end V6
