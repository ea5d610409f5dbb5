/-! TEXTS IN QUOTES, ABSTRACT METHODS -/
set_option maxRecDepth 100000
section V7
variable {l : Launch} {M : xM} {S S' : xS} {pc : Nat} {ls : List (Option Value)} {st stk : List Value} {w : xW} {k n k' n' : Nat}
variable {x y : MethodName} {cc : ByteArray} {nL : Nat} {ret : Option FieldType} {As : List Value} {b : Nat} {C owner : String} {index : Nat}
theorem V_ldcS {i : Nat} {tx : String} (hi : i < 6) (hx : xSo i = (M.1, index, tx)) (hd : decode M.2.1 pc = .ok (.ldc index, 2)) (kk : V l M S (pc + 2) ls (.ref (910 + i) :: st) w k n) : V l M S pc ls st w k n := by
  intro p e s m args below meth c H locs lsA D ad0 ad A cells slots hC hN hL hk hn
  obtain ⟨c1, c2, c3, c4, c5, c6, c7, c8, c9, c10, hK, hE, hz, hF⟩ := id hC
  have h := hz.2.2.2.2.2 i hi
  rw [hx] at h
  refine va_ldcS c1 c2 c6 h hd ?_
  have := kk p e s m args below meth c H locs lsA D ad0 ad A cells slots hC hN hL hk hn
  rw [List.map_cons, show xv ad (.ref (910 + i)) = .ref (ad0 (910 + i)) from by show Value.ref (ad (910 + i)) = _; rw [hN.2.2 _ (hF _ (by omega) (by omega))]] at this
  exact this
/-- a method that the class named declares without a body -/
theorem V_callA (hM : Cn l y (ws_ y cc nL ret) S' (.ref b :: As) w) (hd : decode M.2.1 pc = .ok (.invokevirtual index, 3)) (hG : GoodIn lw_all (va_wsU M.1 index C owner x y (ws_ y cc nL ret))) (hz : Cond.declares ⟨owner, x.name, x.desc⟩ ∈ xNw)
    (hy : owner ≠ "java/lang/invoke/MethodHandle" ∧ owner ≠ "java/lang/invoke/VarHandle" ∧ (parseMethodDescriptor x.desc).map (fun d => d.parameters.length) = some As.length)
    (hR : xfit S S' nL k n k' n') (hb : xIs w b C) (hst : stk = As.reverse ++ .ref b :: st) (hcat : (st.map fun v => v.category).sum ≤ 8)
    (hF : ∀ n, S'.2.1 n → S.2.1 n) (hfl : ∀ v, some v ∈ ls → xok S'.2.1 v) (hfs : ∀ v ∈ st, xok S'.2.1 v)
    (kk : ∀ (r : Option Value) (w' : xW), S'.2.2.1 r w' → V l M S (pc + 3) ls (r.toList ++ st) w' k' n') (kx : ∀ (E : String) (q : Nat) (w' : xW), S'.2.2.2 E q w' → Vx l M S pc ls st E q w' k' n') : V l M S pc ls stk w k n := by
  intro p e s m args below meth c H locs lsA D ad0 ad A cells slots hC hN hL hk hn
  have hE := hC.2.2.2.2.2.2.2.2.2.2.2.1
  refine xRun (S' := S') (st := st) (a := (Value.ref (ad b) :: As.map (xv ad)).toArray) hC hN hL hk hn (vx_runU (As := As.map (xv ad)) (rest := st.map (xv ad)) (xfix hC) (hM D ad H.size) (va_cwA As.length hC.2.2.2.2.2.2.1 hG rfl rfl rfl (hE.1 _ hz) hy hR.1) ⟨xPc_blind, xIs_recv hC hN hb, fun U hU hW => xPre hC hN _ hU hW⟩ rfl (List.length_map _) hL.1 (xrest hst) (xcat hcat) hd ⟨?_, ?_⟩) hR.2.1 hR.2.2 hF hfl hfs kk kx
  · have := hR.2.1; omega
  · have := hR.2.2; omega
end V7
