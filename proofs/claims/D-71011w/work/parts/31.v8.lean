/-! PRIVATE METHODS OF A CLASS ABOVE THE RECEIVER'S -/
set_option maxRecDepth 100000
theorem xSel {C : String} {x x' y : MethodName} {args : Array Value} {s : State} (h : (Cond.selects C x x').before args s = true) (hx : x'.cls = y.cls) (hp : (Cond.privateMethod y).before args s = true) (hi : (Cond.instanceMethod y).before args s = true) (hy : y.cls ≠ "java/lang/invoke/MethodHandle" ∧ y.cls ≠ "java/lang/invoke/VarHandle") : (Cond.selects C y y).before args s = true := by
  obtain ⟨c, r, m, h1, h2, h3, h4, mk, h5, h6⟩ := Cond.selects_spec h
  obtain ⟨my, methY, n1, n2, n3, n4⟩ := Cond.instanceMethod_spec hi
  have f1 := State.methodFound?_of_named n1 hy
  have f2 : selectMethod {} s.vm c my = .method my := selectMethod_private n2 (Cond.privateMethod_at hp my methY n1 n2)
  have e1 := findClass_of_methodNamed h3
  have e2 := findClass_of_methodNamed n1
  rw [hx] at e1
  have e3 : m.cls = my.cls := Option.some.inj (e1.symm.trans e2)
  rw [e3] at h5
  simp [Cond.before, Cond.holds, Cond.value, h1, f1, n1, f2, h5, h6]
section V8
variable {l : Launch} {M : xM} {S S' : xS} {pc : Nat} {ls : List (Option Value)} {st stk : List Value} {w : xW} {k n k' n' : Nat}
variable {x x' y : MethodName} {cc : ByteArray} {nL : Nat} {ret : Option FieldType} {As : List Value} {b : Nat} {C : String} {index : Nat} {hh : List (Nat × Nat × Nat × Nat)}
/-- a private method, on a receiver of a class C below (of which the tables say what it selects for x) -/
theorem V_callP (hM : Cn l y (ws_ y cc nL ret) S' (.ref b :: As) w) (hd : decode M.2.1 pc = .ok (.invokevirtual index, 3)) (hG : GoodIn lw_all (ws_ y cc nL ret)) (hini : Cond.initialized y.cls ∈ lw_all) (hlk : Cond.methodLink M.1 index y ∈ lw_all) (him : Cond.instanceMethod y ∈ lw_all) (hsel : Cond.selects C x x' ∈ lw_all) (hx : x'.cls = y.cls) (hpv : Cond.privateMethod y ∈ xNw)
    (hy : y.cls ≠ "java/lang/invoke/MethodHandle" ∧ y.cls ≠ "java/lang/invoke/VarHandle" ∧ (parseMethodDescriptor y.desc).map (fun d => d.parameters.length) = some As.length)
    (hR : xfit S S' nL k n k' n') (hb : xIs w b C) (hst : stk = As.reverse ++ .ref b :: st) (hcat : (st.map fun v => v.category).sum ≤ 8)
    (hF : ∀ n, S'.2.1 n → S.2.1 n) (hfl : ∀ v, some v ∈ ls → xok S'.2.1 v) (hfs : ∀ v ∈ st, xok S'.2.1 v)
    (kk : ∀ (r : Option Value) (w' : xW), S'.2.2.1 r w' → V l M S (pc + 3) ls (r.toList ++ st) w' k' n') (kx : ∀ (E : String) (q : Nat) (w' : xW), S'.2.2.2 E q w' → Vx l M S pc ls st E q w' k' n') : V l M S pc ls stk w k n := by
  intro p e s m args below meth c H locs lsA D ad0 ad A cells slots hC hN hL hk hn
  have hts := hC.2.2.2.2.2.2.1
  have hE := hC.2.2.2.2.2.2.2.2.2.2.2.1
  refine xRun (S' := S') (st := st) (a := (Value.ref (ad b) :: As.map (xv ad)).toArray) hC hN hL hk hn (vx_runV (As := As.map (xv ad)) (rest := st.map (xv ad)) (xfix hC) (hM D ad H.size) ⟨callB_of As.length hts hG rfl rfl rfl (hts _ hini) (hts _ hlk) hy hR.1, hts _ him, xSel (hts _ hsel) hx (va_Nw.use rfl (hE.1 _ hpv)) (hts _ him) ⟨hy.1, hy.2.1⟩⟩ ⟨xPc_blind, xIs_recv hC hN hb, fun U hU hW => xPre hC hN _ hU hW⟩ rfl (List.length_map _) hL.1 (xrest hst) (xcat hcat) hd ⟨?_, ?_⟩) hR.2.1 hR.2.2 hF hfl hfs kk kx
  · have := hR.2.1; omega
  · have := hR.2.2; omega
theorem V_callPW (hM : Cn l y (wsW_ y cc nL ret hh) S' (.ref b :: As) w) (hd : decode M.2.1 pc = .ok (.invokevirtual index, 3)) (hG : GoodIn lw_all (wsW_ y cc nL ret hh)) (hini : Cond.initialized y.cls ∈ lw_all) (hlk : Cond.methodLink M.1 index y ∈ lw_all) (him : Cond.instanceMethod y ∈ lw_all) (hsel : Cond.selects C x x' ∈ lw_all) (hx : x'.cls = y.cls) (hpv : Cond.privateMethod y ∈ xNw)
    (hy : y.cls ≠ "java/lang/invoke/MethodHandle" ∧ y.cls ≠ "java/lang/invoke/VarHandle" ∧ (parseMethodDescriptor y.desc).map (fun d => d.parameters.length) = some As.length)
    (hR : xfit S S' nL k n k' n') (hb : xIs w b C) (hst : stk = As.reverse ++ .ref b :: st) (hcat : (st.map fun v => v.category).sum ≤ 8)
    (hF : ∀ n, S'.2.1 n → S.2.1 n) (hfl : ∀ v, some v ∈ ls → xok S'.2.1 v) (hfs : ∀ v ∈ st, xok S'.2.1 v)
    (kk : ∀ (r : Option Value) (w' : xW), S'.2.2.1 r w' → V l M S (pc + 3) ls (r.toList ++ st) w' k' n') (kx : ∀ (E : String) (q : Nat) (w' : xW), S'.2.2.2 E q w' → Vx l M S pc ls st E q w' k' n') : V l M S pc ls stk w k n := by
  intro p e s m args below meth c H locs lsA D ad0 ad A cells slots hC hN hL hk hn
  have hts := hC.2.2.2.2.2.2.1
  have hE := hC.2.2.2.2.2.2.2.2.2.2.2.1
  have hc : Cond.codeWith y cc nL ret hh ∈ wsW_ y cc nL ret hh := List.mem_cons_self
  refine xRun (S' := S') (st := st) (a := (Value.ref (ad b) :: As.map (xv ad)).toArray) hC hN hL hk hn (vx_runVX (As := As.map (xv ad)) (rest := st.map (xv ad)) (xfix hC) (hM D ad H.size) ⟨⟨rfl, rfl, hR.1.1, hR.1.2, pay_in hts hG, hc⟩, hts _ (hG _ hc).1, hts _ hini, ⟨hy.1, hy.2.1⟩, fun sig h => by
      have h2 := hy.2.2
      rw [h] at h2
      exact (Option.some.inj h2).symm, hts _ hlk, hts _ him, xSel (hts _ hsel) hx (va_Nw.use rfl (hE.1 _ hpv)) (hts _ him) ⟨hy.1, hy.2.1⟩⟩ ⟨xPc_blind, xIs_recv hC hN hb, fun U hU hW => xPre hC hN _ hU hW⟩ rfl (List.length_map _) hL.1 (xrest hst) (xcat hcat) hd ⟨?_, ?_⟩) hR.2.1 hR.2.2 hF hfl hfs kk kx
  · have := hR.2.1; omega
  · have := hR.2.2; omega
end V8
