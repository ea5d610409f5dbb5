/-! CALLS in PromiseTailor's world -/
set_option maxRecDepth 100000
def nwb (w : Cond) : Bool := match w with
  | .fieldLinkNest _ _ _ _ _ _ => true
  | .methodLinkNest _ _ _ _ => true
  | .castable _ _ => true
  | .declares _ => true
  | .privateMethod _ => true
  | _ => false
theorem nw {w : Cond} (h : w ∈ lw_tbl) (hb : nwb w = true) : w ∈ xNw := List.mem_filter.mpr ⟨h, hb⟩
theorem lw_U {own : String} {idx : Nat} {C owner : String} {x y : MethodName} {b : ByteArray} {L : Nat} {r : Option FieldType} (h1 : Cond.methodLink own idx x ∈ lw_all) (h2 : Cond.sameMethod x.cls owner x.name x.desc ∈ lw_all) (h3 : Cond.selects C x y ∈ lw_all) (h4 : Cond.instanceMethod y ∈ lw_all) (h5 : Cond.initialized y.cls ∈ lw_all) (h6 : Cond.code y b L r ∈ lw_all) : GoodIn lw_all (va_wsU own idx C owner x y (ws_ y b L r)) := by
  refine lw_app ?_ (lw_meth h6)
  intro w hw
  simp only [List.mem_cons, List.not_mem_nil, or_false] at hw
  rcases hw with e | e | e | e | e
  · rw [e]; exact h1
  · rw [e]; exact h2
  · rw [e]; exact h3
  · rw [e]; exact h4
  · rw [e]; exact h5
theorem lw_O {own : String} {idx : Nat} {C owner : String} {x y : MethodName} {b : ByteArray} {L : Nat} {r : Option FieldType} (h1 : Cond.methodLink own idx x ∈ lw_all) (h2 : Cond.sameMethod x.cls owner x.name x.desc ∈ lw_all) (h0 : Cond.instanceMethod ⟨owner, x.name, x.desc⟩ ∈ lw_all) (h3 : Cond.selects C x y ∈ lw_all) (h4 : Cond.instanceMethod y ∈ lw_all) (h5 : Cond.initialized y.cls ∈ lw_all) (h6 : Cond.code y b L r ∈ lw_all) : GoodIn lw_all (va_wsO own idx C owner x y (ws_ y b L r)) := by
  refine lw_app ?_ (lw_meth h6)
  intro w hw
  simp only [List.mem_cons, List.not_mem_nil, or_false] at hw
  rcases hw with e | e | e | e | e | e
  · rw [e]; exact h1
  · rw [e]; exact h2
  · rw [e]; exact h0
  · rw [e]; exact h3
  · rw [e]; exact h4
  · rw [e]; exact h5
theorem lw_SU {own : String} {idx : Nat} {y : MethodName} {b : ByteArray} {L : Nat} {r : Option FieldType} (h1 : Cond.methodLink own idx y ∈ lw_all) (h2 : Cond.sameMethod y.cls y.cls y.name y.desc ∈ lw_all) (h3 : Cond.superclass own y.cls ∈ lw_all) (h4 : Cond.instanceMethod y ∈ lw_all) (h5 : Cond.initialized y.cls ∈ lw_all) (h6 : Cond.code y b L r ∈ lw_all) : GoodIn lw_all (va_wsSU own idx y (ws_ y b L r)) := by
  refine lw_app ?_ (lw_meth h6)
  intro w hw
  simp only [List.mem_cons, List.not_mem_nil, or_false] at hw
  rcases hw with e | e | e | e | e
  · rw [e]; exact h1
  · rw [e]; exact h2
  · rw [e]; exact h3
  · rw [e]; exact h4
  · rw [e]; exact h5
section OK
variable {F : Nat → Prop} {ls : List (Option Value)} {st : List Value}
theorem okl_0 : ∀ v, some v ∈ ([] : List (Option Value)) → xok F v := fun _ h => nomatch h
theorem okl_n (h : ∀ v, some v ∈ ls → xok F v) : ∀ v, some v ∈ none :: ls → xok F v := fun v hv => by
  cases hv with
  | tail _ g => exact h v g
theorem okl_c {u : Value} (hu : xok F u) (h : ∀ v, some v ∈ ls → xok F v) : ∀ v, some v ∈ some u :: ls → xok F v := fun v hv => by
  cases hv with
  | head => exact hu
  | tail _ g => exact h v g
theorem oks_0 : ∀ v ∈ ([] : List Value), xok F v := fun _ h => nomatch h
theorem oks_c {u : Value} (hu : xok F u) (h : ∀ v ∈ st, xok F v) : ∀ v ∈ u :: st, xok F v := fun v hv => by
  cases hv with
  | head => exact hu
  | tail _ g => exact h v g
theorem ok_i {x : Int32} : xok F (.int x) := fun _ e => nomatch e
theorem ok_l {x : Int64} : xok F (.long x) := fun _ e => nomatch e
theorem ok_z : xok F .null := fun _ e => nomatch e
theorem ok_r {b : Nat} (h : ¬ F b) : xok F (.ref b) := fun n e => by cases e; exact h
/-- locals, stack: none of them names a -/
theorem nel_0 {a : Nat} : ∀ v, some v ∈ ([] : List (Option Value)) → v ≠ .ref a := fun _ h => nomatch h
theorem nel_n {a : Nat} (h : ∀ v, some v ∈ ls → v ≠ .ref a) : ∀ v, some v ∈ none :: ls → v ≠ .ref a := fun v hv => by
  cases hv with
  | tail _ g => exact h v g
theorem nel_c {a : Nat} {u : Value} (hu : u ≠ .ref a) (h : ∀ v, some v ∈ ls → v ≠ .ref a) : ∀ v, some v ∈ some u :: ls → v ≠ .ref a := fun v hv => by
  cases hv with
  | head => exact hu
  | tail _ g => exact h v g
theorem nes_0 {a : Nat} : ∀ v ∈ ([] : List Value), v ≠ .ref a := fun _ h => nomatch h
theorem nes_c {a : Nat} {u : Value} (hu : u ≠ .ref a) (h : ∀ v ∈ st, v ≠ .ref a) : ∀ v ∈ u :: st, v ≠ .ref a := fun v hv => by
  cases hv with
  | head => exact hu
  | tail _ g => exact h v g
theorem ne_i {a : Nat} {x : Int32} : Value.int x ≠ .ref a := fun e => nomatch e
theorem ne_l {a : Nat} {x : Int64} : Value.long x ≠ .ref a := fun e => nomatch e
theorem ne_z {a : Nat} : Value.null ≠ .ref a := fun e => nomatch e
theorem ne_r {a b : Nat} (h : b ≠ a) : Value.ref b ≠ .ref a := fun e => h (Value.ref.inj e)
end OK
/-- the names that a reading may make anew -/
def fF (X : xSt) (n : Nat) : Prop := (X 47 0 ≠ nI 1 ∧ (n = 256 ∨ (1088 ≤ n ∧ n < 1152))) ∨ (X 47 1 ≠ nI 1 ∧ (n = 257 ∨ (1152 ≤ n ∧ n < 1216))) ∨ 1536 ≤ n
/-- .. and its room -/
def rc (X : xSt) : Nat := (if X 47 0 = nI 1 then 0 else 100) + (if X 47 1 = nI 1 then 0 else 100)
def rs (X : xSt) : Nat := (if X 47 0 = nI 1 then 0 else 700) + (if X 47 1 = nI 1 then 0 else 700)
theorem fF_lo {X : xSt} : ∀ n, 900 ≤ n → n < 950 → ¬ fF X n := by
  intro n h1 h2 h
  unfold fF at h
  rcases h with h | h | h <;> omega
/-- a contract in PromiseTailor's world -/
def Cz (l : Launch) (y : MethodName) (ws : List Cond) (d c s : Nat) (F : Nat → Prop) (as : List Value) (X : xSt) (P : Option Value → xSt → Prop) : Prop :=
  Cn l y ws (rmD d c s, F, (fun r w' => ∃ X', w' = wX X' ∧ P r X'), xX0) as (wX X)
/-- .. that makes no cell -/
abbrev Cy (l : Launch) (y : MethodName) (ws : List Cond) (d : Nat) (as : List Value) (X : xSt) (P : Option Value → xSt → Prop) : Prop := Cz l y ws d 0 0 xF0 as X P
/-- .. that may read -/
abbrev Cx (l : Launch) (y : MethodName) (ws : List Cond) (d : Nat) (as : List Value) (X : xSt) (P : Option Value → xSt → Prop) : Prop := Cz l y ws d (rc X) (rs X) (fF X) as X P
/-- a contract that changes nothing -/
def Cq (l : Launch) (y : MethodName) (cc : ByteArray) (nL : Nat) (ret : Option FieldType) (d : Nat) (as : List Value) (w : xW) (v : Option Value) : Prop :=
  Cn l y (ws_ y cc nL ret) (rmD d 0 0, xF0, (fun r w' => r = v ∧ w' = w), xX0) as w
theorem Cz_start {l : Launch} {y : MethodName} {cc : ByteArray} {nL : Nat} {ret : Option FieldType} {d c s : Nat} {F : Nat → Prop} {as : List Value} {X : xSt} {P : Option Value → xSt → Prop} {ls : List (Option Value)} (hy : plainName y.cls = true) (hls : xent nL as = ls) (hlen : (xargs as).length ≤ nL) (hF : ∀ n, 900 ≤ n → n < 950 → ¬ F n)
    (h : ∀ Q : Option Value → xW → Prop, (∀ r X', P r X' → Q r (wX X')) → V l (y.cls, cc, nL, ret, [], y.name) (rmD d c s, F, Q, xX0) 0 ls [] (wX X) c s) : Cz l y (ws_ y cc nL ret) d c s F as X P :=
  Cn_start hy hls hlen hF (h _ fun r X' hP => ⟨X', rfl, hP⟩)
theorem Cz_startW {l : Launch} {y : MethodName} {cc : ByteArray} {nL : Nat} {ret : Option FieldType} {hh : List (Nat × Nat × Nat × Nat)} {d c s : Nat} {F : Nat → Prop} {as : List Value} {X : xSt} {P : Option Value → xSt → Prop} {ls : List (Option Value)} (hy : plainName y.cls = true) (hls : xent nL as = ls) (hlen : (xargs as).length ≤ nL) (hF : ∀ n, 900 ≤ n → n < 950 → ¬ F n)
    (h : ∀ Q : Option Value → xW → Prop, (∀ r X', P r X' → Q r (wX X')) → V l (y.cls, cc, nL, ret, hh, y.name) (rmD d c s, F, Q, xX0) 0 ls [] (wX X) c s) : Cz l y (wsW_ y cc nL ret hh) d c s F as X P :=
  Cn_startW hy hls hlen hF (h _ fun r X' hP => ⟨X', rfl, hP⟩)
theorem Cq_start {l : Launch} {y : MethodName} {cc : ByteArray} {nL : Nat} {ret : Option FieldType} {d : Nat} {as : List Value} {w : xW} {v : Option Value} {ls : List (Option Value)} (hy : plainName y.cls = true) (hls : xent nL as = ls) (hlen : (xargs as).length ≤ nL)
    (h : ∀ Q : Option Value → xW → Prop, Q v w → V l (y.cls, cc, nL, ret, [], y.name) (rmD d 0 0, xF0, Q, xX0) 0 ls [] w 0 0) : Cq l y cc nL ret d as w v :=
  Cn_start hy hls hlen (fun _ _ _ h => h) (h _ ⟨rfl, rfl⟩)
/-- a contract that gives v and leaves the world w2 -/
def Cr (l : Launch) (y : MethodName) (cc : ByteArray) (nL : Nat) (ret : Option FieldType) (d c s : Nat) (F : Nat → Prop) (as : List Value) (w : xW) (v : Option Value) (w2 : xW) : Prop :=
  Cn l y (ws_ y cc nL ret) (rmD d c s, F, (fun r w' => r = v ∧ w' = w2), xX0) as w
theorem Cr_start {l : Launch} {y : MethodName} {cc : ByteArray} {nL : Nat} {ret : Option FieldType} {d c s : Nat} {F : Nat → Prop} {as : List Value} {w w2 : xW} {v : Option Value} {ls : List (Option Value)} (hy : plainName y.cls = true) (hls : xent nL as = ls) (hlen : (xargs as).length ≤ nL) (hF : ∀ n, 900 ≤ n → n < 950 → ¬ F n)
    (h : ∀ Q : Option Value → xW → Prop, Q v w2 → V l (y.cls, cc, nL, ret, [], y.name) (rmD d c s, F, Q, xX0) 0 ls [] w c s) : Cr l y cc nL ret d c s F as w v w2 :=
  Cn_start hy hls hlen hF (h _ ⟨rfl, rfl⟩)
section VZ
variable {l : Launch} {M : xM} {pc : Nat} {ls : List (Option Value)} {st stk : List Value} {X : xSt} {w : xW} {k n k' n' : Nat}
variable {x y : MethodName} {cc : ByteArray} {nL : Nat} {ret : Option FieldType} {hh : List (Nat × Nat × Nat × Nat)} {d d0 c0 s0 c s index ci b : Nat} {ow : Bool} {fs : List Value} {r0 : vw_C} {C owner : String} {As : List Value} {F F0 : Nat → Prop} {Q0 : Option Value → xW → Prop} {X0 : String → Nat → xW → Prop} {v : Option Value}
theorem Vz_vI {P : Int32 → xSt → Prop} (hM : Cz l y (ws_ y cc nL ret) d c s F (.ref b :: As) X (fun r X' => ∃ x, r = some (.int x) ∧ P x X')) (hd : decode M.2.1 pc = .ok (.invokevirtual index, 3)) (hG : GoodIn lw_all (wsV M.1 index C y (ws_ y cc nL ret))) (hy : y.cls = C ∧ y.cls ≠ "java/lang/invoke/MethodHandle" ∧ y.cls ≠ "java/lang/invoke/VarHandle" ∧ (parseMethodDescriptor y.desc).map (fun d => d.parameters.length) = some As.length)
    (hR : d + 1 ≤ d0 ∧ nL ≤ 80) (hb : wX X b = some (.inr (ci, ow, fs))) (hci : CL[ci]? = some r0) (hr0 : r0.1 = C) (hst : stk = As.reverse ++ .ref b :: st) (hcat : (st.map fun v => v.category).sum ≤ 8) (hF : ∀ n, F n → F0 n) (hfl : ∀ v, some v ∈ ls → xok F v) (hfs : ∀ v ∈ st, xok F v) (hk : c + k' ≤ k ∧ s + n' ≤ n)
    (kk : ∀ (r : Int32) (X' : xSt), P r X' → V l M (rmD d0 c0 s0, F0, Q0, X0) (pc + 3) ls (.int r :: st) (wX X') k' n') : V l M (rmD d0 c0 s0, F0, Q0, X0) pc ls stk (wX X) k n :=
  V_callV hM hd hG hy (xfit_D hR.1 hR.2 hk.1 hk.2) hb hci hr0 hst hcat hF hfl hfs (fun r w' h => by obtain ⟨X', rfl, x, rfl, hP⟩ := h; exact kk x X' hP) (fun _ _ _ h => h.elim)
theorem Vz_vL {P : Int64 → xSt → Prop} (hM : Cz l y (ws_ y cc nL ret) d c s F (.ref b :: As) X (fun r X' => ∃ x, r = some (.long x) ∧ P x X')) (hd : decode M.2.1 pc = .ok (.invokevirtual index, 3)) (hG : GoodIn lw_all (wsV M.1 index C y (ws_ y cc nL ret))) (hy : y.cls = C ∧ y.cls ≠ "java/lang/invoke/MethodHandle" ∧ y.cls ≠ "java/lang/invoke/VarHandle" ∧ (parseMethodDescriptor y.desc).map (fun d => d.parameters.length) = some As.length)
    (hR : d + 1 ≤ d0 ∧ nL ≤ 80) (hb : wX X b = some (.inr (ci, ow, fs))) (hci : CL[ci]? = some r0) (hr0 : r0.1 = C) (hst : stk = As.reverse ++ .ref b :: st) (hcat : (st.map fun v => v.category).sum ≤ 8) (hF : ∀ n, F n → F0 n) (hfl : ∀ v, some v ∈ ls → xok F v) (hfs : ∀ v ∈ st, xok F v) (hk : c + k' ≤ k ∧ s + n' ≤ n)
    (kk : ∀ (r : Int64) (X' : xSt), P r X' → V l M (rmD d0 c0 s0, F0, Q0, X0) (pc + 3) ls (.long r :: st) (wX X') k' n') : V l M (rmD d0 c0 s0, F0, Q0, X0) pc ls stk (wX X) k n :=
  V_callV hM hd hG hy (xfit_D hR.1 hR.2 hk.1 hk.2) hb hci hr0 hst hcat hF hfl hfs (fun r w' h => by obtain ⟨X', rfl, x, rfl, hP⟩ := h; exact kk x X' hP) (fun _ _ _ h => h.elim)
theorem Vz_vV {P : xSt → Prop} (hM : Cz l y (ws_ y cc nL ret) d c s F (.ref b :: As) X (fun r X' => r = none ∧ P X')) (hd : decode M.2.1 pc = .ok (.invokevirtual index, 3)) (hG : GoodIn lw_all (wsV M.1 index C y (ws_ y cc nL ret))) (hy : y.cls = C ∧ y.cls ≠ "java/lang/invoke/MethodHandle" ∧ y.cls ≠ "java/lang/invoke/VarHandle" ∧ (parseMethodDescriptor y.desc).map (fun d => d.parameters.length) = some As.length)
    (hR : d + 1 ≤ d0 ∧ nL ≤ 80) (hb : wX X b = some (.inr (ci, ow, fs))) (hci : CL[ci]? = some r0) (hr0 : r0.1 = C) (hst : stk = As.reverse ++ .ref b :: st) (hcat : (st.map fun v => v.category).sum ≤ 8) (hF : ∀ n, F n → F0 n) (hfl : ∀ v, some v ∈ ls → xok F v) (hfs : ∀ v ∈ st, xok F v) (hk : c + k' ≤ k ∧ s + n' ≤ n)
    (kk : ∀ (X' : xSt), P X' → V l M (rmD d0 c0 s0, F0, Q0, X0) (pc + 3) ls (st) (wX X') k' n') : V l M (rmD d0 c0 s0, F0, Q0, X0) pc ls stk (wX X) k n :=
  V_callV hM hd hG hy (xfit_D hR.1 hR.2 hk.1 hk.2) hb hci hr0 hst hcat hF hfl hfs (fun r w' h => by obtain ⟨X', rfl, rfl, hP⟩ := h; exact kk X' hP) (fun _ _ _ h => h.elim)
theorem Vz_vA {P : Nat → xSt → Prop} (hM : Cz l y (ws_ y cc nL ret) d c s F (.ref b :: As) X (fun r X' => ∃ x, r = some (.ref x) ∧ P x X')) (hd : decode M.2.1 pc = .ok (.invokevirtual index, 3)) (hG : GoodIn lw_all (wsV M.1 index C y (ws_ y cc nL ret))) (hy : y.cls = C ∧ y.cls ≠ "java/lang/invoke/MethodHandle" ∧ y.cls ≠ "java/lang/invoke/VarHandle" ∧ (parseMethodDescriptor y.desc).map (fun d => d.parameters.length) = some As.length)
    (hR : d + 1 ≤ d0 ∧ nL ≤ 80) (hb : wX X b = some (.inr (ci, ow, fs))) (hci : CL[ci]? = some r0) (hr0 : r0.1 = C) (hst : stk = As.reverse ++ .ref b :: st) (hcat : (st.map fun v => v.category).sum ≤ 8) (hF : ∀ n, F n → F0 n) (hfl : ∀ v, some v ∈ ls → xok F v) (hfs : ∀ v ∈ st, xok F v) (hk : c + k' ≤ k ∧ s + n' ≤ n)
    (kk : ∀ (r : Nat) (X' : xSt), P r X' → V l M (rmD d0 c0 s0, F0, Q0, X0) (pc + 3) ls (.ref r :: st) (wX X') k' n') : V l M (rmD d0 c0 s0, F0, Q0, X0) pc ls stk (wX X) k n :=
  V_callV hM hd hG hy (xfit_D hR.1 hR.2 hk.1 hk.2) hb hci hr0 hst hcat hF hfl hfs (fun r w' h => by obtain ⟨X', rfl, x, rfl, hP⟩ := h; exact kk x X' hP) (fun _ _ _ h => h.elim)
theorem Vz_wI {P : Int32 → xSt → Prop} (hM : Cz l y (wsW_ y cc nL ret hh) d c s F (.ref b :: As) X (fun r X' => ∃ x, r = some (.int x) ∧ P x X')) (hd : decode M.2.1 pc = .ok (.invokevirtual index, 3)) (hG : GoodIn lw_all (wsV M.1 index C y (wsW_ y cc nL ret hh))) (hy : y.cls = C ∧ y.cls ≠ "java/lang/invoke/MethodHandle" ∧ y.cls ≠ "java/lang/invoke/VarHandle" ∧ (parseMethodDescriptor y.desc).map (fun d => d.parameters.length) = some As.length)
    (hR : d + 1 ≤ d0 ∧ nL ≤ 80) (hb : wX X b = some (.inr (ci, ow, fs))) (hci : CL[ci]? = some r0) (hr0 : r0.1 = C) (hst : stk = As.reverse ++ .ref b :: st) (hcat : (st.map fun v => v.category).sum ≤ 8) (hF : ∀ n, F n → F0 n) (hfl : ∀ v, some v ∈ ls → xok F v) (hfs : ∀ v ∈ st, xok F v) (hk : c + k' ≤ k ∧ s + n' ≤ n)
    (kk : ∀ (r : Int32) (X' : xSt), P r X' → V l M (rmD d0 c0 s0, F0, Q0, X0) (pc + 3) ls (.int r :: st) (wX X') k' n') : V l M (rmD d0 c0 s0, F0, Q0, X0) pc ls stk (wX X) k n :=
  V_callVW hM hd hG hy (xfit_D hR.1 hR.2 hk.1 hk.2) hb hci hr0 hst hcat hF hfl hfs (fun r w' h => by obtain ⟨X', rfl, x, rfl, hP⟩ := h; exact kk x X' hP) (fun _ _ _ h => h.elim)
theorem Vz_wL {P : Int64 → xSt → Prop} (hM : Cz l y (wsW_ y cc nL ret hh) d c s F (.ref b :: As) X (fun r X' => ∃ x, r = some (.long x) ∧ P x X')) (hd : decode M.2.1 pc = .ok (.invokevirtual index, 3)) (hG : GoodIn lw_all (wsV M.1 index C y (wsW_ y cc nL ret hh))) (hy : y.cls = C ∧ y.cls ≠ "java/lang/invoke/MethodHandle" ∧ y.cls ≠ "java/lang/invoke/VarHandle" ∧ (parseMethodDescriptor y.desc).map (fun d => d.parameters.length) = some As.length)
    (hR : d + 1 ≤ d0 ∧ nL ≤ 80) (hb : wX X b = some (.inr (ci, ow, fs))) (hci : CL[ci]? = some r0) (hr0 : r0.1 = C) (hst : stk = As.reverse ++ .ref b :: st) (hcat : (st.map fun v => v.category).sum ≤ 8) (hF : ∀ n, F n → F0 n) (hfl : ∀ v, some v ∈ ls → xok F v) (hfs : ∀ v ∈ st, xok F v) (hk : c + k' ≤ k ∧ s + n' ≤ n)
    (kk : ∀ (r : Int64) (X' : xSt), P r X' → V l M (rmD d0 c0 s0, F0, Q0, X0) (pc + 3) ls (.long r :: st) (wX X') k' n') : V l M (rmD d0 c0 s0, F0, Q0, X0) pc ls stk (wX X) k n :=
  V_callVW hM hd hG hy (xfit_D hR.1 hR.2 hk.1 hk.2) hb hci hr0 hst hcat hF hfl hfs (fun r w' h => by obtain ⟨X', rfl, x, rfl, hP⟩ := h; exact kk x X' hP) (fun _ _ _ h => h.elim)
theorem Vz_wV {P : xSt → Prop} (hM : Cz l y (wsW_ y cc nL ret hh) d c s F (.ref b :: As) X (fun r X' => r = none ∧ P X')) (hd : decode M.2.1 pc = .ok (.invokevirtual index, 3)) (hG : GoodIn lw_all (wsV M.1 index C y (wsW_ y cc nL ret hh))) (hy : y.cls = C ∧ y.cls ≠ "java/lang/invoke/MethodHandle" ∧ y.cls ≠ "java/lang/invoke/VarHandle" ∧ (parseMethodDescriptor y.desc).map (fun d => d.parameters.length) = some As.length)
    (hR : d + 1 ≤ d0 ∧ nL ≤ 80) (hb : wX X b = some (.inr (ci, ow, fs))) (hci : CL[ci]? = some r0) (hr0 : r0.1 = C) (hst : stk = As.reverse ++ .ref b :: st) (hcat : (st.map fun v => v.category).sum ≤ 8) (hF : ∀ n, F n → F0 n) (hfl : ∀ v, some v ∈ ls → xok F v) (hfs : ∀ v ∈ st, xok F v) (hk : c + k' ≤ k ∧ s + n' ≤ n)
    (kk : ∀ (X' : xSt), P X' → V l M (rmD d0 c0 s0, F0, Q0, X0) (pc + 3) ls (st) (wX X') k' n') : V l M (rmD d0 c0 s0, F0, Q0, X0) pc ls stk (wX X) k n :=
  V_callVW hM hd hG hy (xfit_D hR.1 hR.2 hk.1 hk.2) hb hci hr0 hst hcat hF hfl hfs (fun r w' h => by obtain ⟨X', rfl, rfl, hP⟩ := h; exact kk X' hP) (fun _ _ _ h => h.elim)
theorem Vz_wA {P : Nat → xSt → Prop} (hM : Cz l y (wsW_ y cc nL ret hh) d c s F (.ref b :: As) X (fun r X' => ∃ x, r = some (.ref x) ∧ P x X')) (hd : decode M.2.1 pc = .ok (.invokevirtual index, 3)) (hG : GoodIn lw_all (wsV M.1 index C y (wsW_ y cc nL ret hh))) (hy : y.cls = C ∧ y.cls ≠ "java/lang/invoke/MethodHandle" ∧ y.cls ≠ "java/lang/invoke/VarHandle" ∧ (parseMethodDescriptor y.desc).map (fun d => d.parameters.length) = some As.length)
    (hR : d + 1 ≤ d0 ∧ nL ≤ 80) (hb : wX X b = some (.inr (ci, ow, fs))) (hci : CL[ci]? = some r0) (hr0 : r0.1 = C) (hst : stk = As.reverse ++ .ref b :: st) (hcat : (st.map fun v => v.category).sum ≤ 8) (hF : ∀ n, F n → F0 n) (hfl : ∀ v, some v ∈ ls → xok F v) (hfs : ∀ v ∈ st, xok F v) (hk : c + k' ≤ k ∧ s + n' ≤ n)
    (kk : ∀ (r : Nat) (X' : xSt), P r X' → V l M (rmD d0 c0 s0, F0, Q0, X0) (pc + 3) ls (.ref r :: st) (wX X') k' n') : V l M (rmD d0 c0 s0, F0, Q0, X0) pc ls stk (wX X) k n :=
  V_callVW hM hd hG hy (xfit_D hR.1 hR.2 hk.1 hk.2) hb hci hr0 hst hcat hF hfl hfs (fun r w' h => by obtain ⟨X', rfl, x, rfl, hP⟩ := h; exact kk x X' hP) (fun _ _ _ h => h.elim)
theorem Vz_uI {P : Int32 → xSt → Prop} (hM : Cz l y (ws_ y cc nL ret) d c s F (.ref b :: As) X (fun r X' => ∃ x, r = some (.int x) ∧ P x X')) (hd : decode M.2.1 pc = .ok (.invokevirtual index, 3)) (hG : GoodIn lw_all (va_wsU M.1 index C owner x y (ws_ y cc nL ret))) (hyx : y = ⟨owner, x.name, x.desc⟩) (hy : owner ≠ "java/lang/invoke/MethodHandle" ∧ owner ≠ "java/lang/invoke/VarHandle" ∧ (parseMethodDescriptor x.desc).map (fun d => d.parameters.length) = some As.length)
    (hR : d + 1 ≤ d0 ∧ nL ≤ 80) (hb : xIs (wX X) b C) (hst : stk = As.reverse ++ .ref b :: st) (hcat : (st.map fun v => v.category).sum ≤ 8) (hF : ∀ n, F n → F0 n) (hfl : ∀ v, some v ∈ ls → xok F v) (hfs : ∀ v ∈ st, xok F v) (hk : c + k' ≤ k ∧ s + n' ≤ n)
    (kk : ∀ (r : Int32) (X' : xSt), P r X' → V l M (rmD d0 c0 s0, F0, Q0, X0) (pc + 3) ls (.int r :: st) (wX X') k' n') : V l M (rmD d0 c0 s0, F0, Q0, X0) pc ls stk (wX X) k n :=
  V_callU hM hd hG hyx hy (xfit_D hR.1 hR.2 hk.1 hk.2) hb hst hcat hF hfl hfs (fun r w' h => by obtain ⟨X', rfl, x, rfl, hP⟩ := h; exact kk x X' hP) (fun _ _ _ h => h.elim)
theorem Vz_uL {P : Int64 → xSt → Prop} (hM : Cz l y (ws_ y cc nL ret) d c s F (.ref b :: As) X (fun r X' => ∃ x, r = some (.long x) ∧ P x X')) (hd : decode M.2.1 pc = .ok (.invokevirtual index, 3)) (hG : GoodIn lw_all (va_wsU M.1 index C owner x y (ws_ y cc nL ret))) (hyx : y = ⟨owner, x.name, x.desc⟩) (hy : owner ≠ "java/lang/invoke/MethodHandle" ∧ owner ≠ "java/lang/invoke/VarHandle" ∧ (parseMethodDescriptor x.desc).map (fun d => d.parameters.length) = some As.length)
    (hR : d + 1 ≤ d0 ∧ nL ≤ 80) (hb : xIs (wX X) b C) (hst : stk = As.reverse ++ .ref b :: st) (hcat : (st.map fun v => v.category).sum ≤ 8) (hF : ∀ n, F n → F0 n) (hfl : ∀ v, some v ∈ ls → xok F v) (hfs : ∀ v ∈ st, xok F v) (hk : c + k' ≤ k ∧ s + n' ≤ n)
    (kk : ∀ (r : Int64) (X' : xSt), P r X' → V l M (rmD d0 c0 s0, F0, Q0, X0) (pc + 3) ls (.long r :: st) (wX X') k' n') : V l M (rmD d0 c0 s0, F0, Q0, X0) pc ls stk (wX X) k n :=
  V_callU hM hd hG hyx hy (xfit_D hR.1 hR.2 hk.1 hk.2) hb hst hcat hF hfl hfs (fun r w' h => by obtain ⟨X', rfl, x, rfl, hP⟩ := h; exact kk x X' hP) (fun _ _ _ h => h.elim)
theorem Vz_uV {P : xSt → Prop} (hM : Cz l y (ws_ y cc nL ret) d c s F (.ref b :: As) X (fun r X' => r = none ∧ P X')) (hd : decode M.2.1 pc = .ok (.invokevirtual index, 3)) (hG : GoodIn lw_all (va_wsU M.1 index C owner x y (ws_ y cc nL ret))) (hyx : y = ⟨owner, x.name, x.desc⟩) (hy : owner ≠ "java/lang/invoke/MethodHandle" ∧ owner ≠ "java/lang/invoke/VarHandle" ∧ (parseMethodDescriptor x.desc).map (fun d => d.parameters.length) = some As.length)
    (hR : d + 1 ≤ d0 ∧ nL ≤ 80) (hb : xIs (wX X) b C) (hst : stk = As.reverse ++ .ref b :: st) (hcat : (st.map fun v => v.category).sum ≤ 8) (hF : ∀ n, F n → F0 n) (hfl : ∀ v, some v ∈ ls → xok F v) (hfs : ∀ v ∈ st, xok F v) (hk : c + k' ≤ k ∧ s + n' ≤ n)
    (kk : ∀ (X' : xSt), P X' → V l M (rmD d0 c0 s0, F0, Q0, X0) (pc + 3) ls (st) (wX X') k' n') : V l M (rmD d0 c0 s0, F0, Q0, X0) pc ls stk (wX X) k n :=
  V_callU hM hd hG hyx hy (xfit_D hR.1 hR.2 hk.1 hk.2) hb hst hcat hF hfl hfs (fun r w' h => by obtain ⟨X', rfl, rfl, hP⟩ := h; exact kk X' hP) (fun _ _ _ h => h.elim)
theorem Vz_uA {P : Nat → xSt → Prop} (hM : Cz l y (ws_ y cc nL ret) d c s F (.ref b :: As) X (fun r X' => ∃ x, r = some (.ref x) ∧ P x X')) (hd : decode M.2.1 pc = .ok (.invokevirtual index, 3)) (hG : GoodIn lw_all (va_wsU M.1 index C owner x y (ws_ y cc nL ret))) (hyx : y = ⟨owner, x.name, x.desc⟩) (hy : owner ≠ "java/lang/invoke/MethodHandle" ∧ owner ≠ "java/lang/invoke/VarHandle" ∧ (parseMethodDescriptor x.desc).map (fun d => d.parameters.length) = some As.length)
    (hR : d + 1 ≤ d0 ∧ nL ≤ 80) (hb : xIs (wX X) b C) (hst : stk = As.reverse ++ .ref b :: st) (hcat : (st.map fun v => v.category).sum ≤ 8) (hF : ∀ n, F n → F0 n) (hfl : ∀ v, some v ∈ ls → xok F v) (hfs : ∀ v ∈ st, xok F v) (hk : c + k' ≤ k ∧ s + n' ≤ n)
    (kk : ∀ (r : Nat) (X' : xSt), P r X' → V l M (rmD d0 c0 s0, F0, Q0, X0) (pc + 3) ls (.ref r :: st) (wX X') k' n') : V l M (rmD d0 c0 s0, F0, Q0, X0) pc ls stk (wX X) k n :=
  V_callU hM hd hG hyx hy (xfit_D hR.1 hR.2 hk.1 hk.2) hb hst hcat hF hfl hfs (fun r w' h => by obtain ⟨X', rfl, x, rfl, hP⟩ := h; exact kk x X' hP) (fun _ _ _ h => h.elim)
/-- calls of what changes nothing -/
theorem Vq_v (hM : Cq l y cc nL ret d (.ref b :: As) w v) (hd : decode M.2.1 pc = .ok (.invokevirtual index, 3)) (hG : GoodIn lw_all (wsV M.1 index C y (ws_ y cc nL ret))) (hy : y.cls = C ∧ y.cls ≠ "java/lang/invoke/MethodHandle" ∧ y.cls ≠ "java/lang/invoke/VarHandle" ∧ (parseMethodDescriptor y.desc).map (fun d => d.parameters.length) = some As.length)
    (hR : d + 1 ≤ d0 ∧ nL ≤ 80) (hb : w b = some (.inr (ci, ow, fs))) (hci : CL[ci]? = some r0) (hr0 : r0.1 = C) (hst : stk = As.reverse ++ .ref b :: st) (hcat : (st.map fun v => v.category).sum ≤ 8)
    (kk : V l M (rmD d0 c0 s0, F0, Q0, X0) (pc + 3) ls (v.toList ++ st) w k n) : V l M (rmD d0 c0 s0, F0, Q0, X0) pc ls stk w k n :=
  V_callV0 hM hd hG hy (xfit_D hR.1 hR.2 (Nat.le_of_eq (Nat.zero_add k)) (Nat.le_of_eq (Nat.zero_add n))) hb hci hr0 hst hcat (fun r w' h => by obtain ⟨rfl, rfl⟩ := h; exact kk)
theorem Vq_s (hM : Cq l y cc nL ret d As w v) (hd : decode M.2.1 pc = .ok (.invokestatic index, 3)) (hG : GoodIn lw_all (va_wsS M.1 index y (ws_ y cc nL ret))) (hy : y.cls ≠ "java/lang/invoke/MethodHandle" ∧ y.cls ≠ "java/lang/invoke/VarHandle" ∧ (parseMethodDescriptor y.desc).map (fun d => d.parameters.length) = some As.length)
    (hR : d + 1 ≤ d0 ∧ nL ≤ 80) (hst : stk = As.reverse ++ st) (hcat : (st.map fun v => v.category).sum ≤ 8)
    (kk : V l M (rmD d0 c0 s0, F0, Q0, X0) (pc + 3) ls (v.toList ++ st) w k n) : V l M (rmD d0 c0 s0, F0, Q0, X0) pc ls stk w k n :=
  V_callS0 hM hd hG hy (xfit_D hR.1 hR.2 (Nat.le_of_eq (Nat.zero_add k)) (Nat.le_of_eq (Nat.zero_add n))) hst hcat (fun r w' h => by obtain ⟨rfl, rfl⟩ := h; exact kk)
theorem Vq_u (hM : Cq l y cc nL ret d (.ref b :: As) w v) (hd : decode M.2.1 pc = .ok (.invokevirtual index, 3)) (hG : GoodIn lw_all (va_wsU M.1 index C owner x y (ws_ y cc nL ret))) (hyx : y = ⟨owner, x.name, x.desc⟩) (hy : owner ≠ "java/lang/invoke/MethodHandle" ∧ owner ≠ "java/lang/invoke/VarHandle" ∧ (parseMethodDescriptor x.desc).map (fun d => d.parameters.length) = some As.length)
    (hR : d + 1 ≤ d0 ∧ nL ≤ 80) (hb : xIs w b C) (hst : stk = As.reverse ++ .ref b :: st) (hcat : (st.map fun v => v.category).sum ≤ 8)
    (kk : V l M (rmD d0 c0 s0, F0, Q0, X0) (pc + 3) ls (v.toList ++ st) w k n) : V l M (rmD d0 c0 s0, F0, Q0, X0) pc ls stk w k n :=
  V_callU hM hd hG hyx hy (xfit_D hR.1 hR.2 (Nat.le_of_eq (Nat.zero_add k)) (Nat.le_of_eq (Nat.zero_add n))) hb hst hcat (fun _ h => h.elim) (fun _ _ => xok0) (fun _ _ => xok0) (fun r w' h => by obtain ⟨rfl, rfl⟩ := h; exact kk) (fun _ _ _ h => h.elim)
theorem Vq_o {b0 : ByteArray} {m0 : Nat} {rt0 : Option FieldType} (hM : Cq l y cc nL ret d (.ref b :: As) w v) (hd : decode M.2.1 pc = .ok (.invokevirtual index, 3)) (hG : GoodIn lw_all (va_wsO M.1 index C owner x y (ws_ y cc nL ret))) (h0 : Cond.code ⟨owner, x.name, x.desc⟩ b0 m0 rt0 ∈ lw_all) (hy : owner ≠ "java/lang/invoke/MethodHandle" ∧ owner ≠ "java/lang/invoke/VarHandle" ∧ (parseMethodDescriptor x.desc).map (fun d => d.parameters.length) = some As.length)
    (hR : d + 1 ≤ d0 ∧ nL ≤ 80) (hb : xIs w b C) (hst : stk = As.reverse ++ .ref b :: st) (hcat : (st.map fun v => v.category).sum ≤ 8)
    (kk : V l M (rmD d0 c0 s0, F0, Q0, X0) (pc + 3) ls (v.toList ++ st) w k n) : V l M (rmD d0 c0 s0, F0, Q0, X0) pc ls stk w k n :=
  V_callO hM hd hG h0 hy (xfit_D hR.1 hR.2 (Nat.le_of_eq (Nat.zero_add k)) (Nat.le_of_eq (Nat.zero_add n))) hb hst hcat (fun _ h => h.elim) (fun _ _ => xok0) (fun _ _ => xok0) (fun r w' h => by obtain ⟨rfl, rfl⟩ := h; exact kk) (fun _ _ _ h => h.elim)
theorem Vq_su {r1 : vw_C} (hM : Cq l y cc nL ret d (.ref b :: As) w v) (hd : decode M.2.1 pc = .ok (.invokespecial index, 3)) (hG : GoodIn lw_all (va_wsSU M.1 index y (ws_ y cc nL ret))) (hy : y.name ≠ "<init>" ∧ (parseMethodDescriptor y.desc).map (fun d => d.parameters.length) = some As.length)
    (hR : d + 1 ≤ d0 ∧ nL ≤ 80) (hb : w b = some (.inr (ci, ow, fs))) (hci : CL[ci]? = some r1) (hst : stk = As.reverse ++ .ref b :: st) (hcat : (st.map fun v => v.category).sum ≤ 8)
    (kk : V l M (rmD d0 c0 s0, F0, Q0, X0) (pc + 3) ls (v.toList ++ st) w k n) : V l M (rmD d0 c0 s0, F0, Q0, X0) pc ls stk w k n :=
  V_callSU hM hd hG hy (xfit_D hR.1 hR.2 (Nat.le_of_eq (Nat.zero_add k)) (Nat.le_of_eq (Nat.zero_add n))) hb hci hst hcat (fun _ h => h.elim) (fun _ _ => xok0) (fun _ _ => xok0) (fun r w' h => by obtain ⟨rfl, rfl⟩ := h; exact kk) (fun _ _ _ h => h.elim)
theorem Vr_v {w2 : xW} (hM : Cr l y cc nL ret d c s F (.ref b :: As) w v w2) (hd : decode M.2.1 pc = .ok (.invokevirtual index, 3)) (hG : GoodIn lw_all (wsV M.1 index C y (ws_ y cc nL ret))) (hy : y.cls = C ∧ y.cls ≠ "java/lang/invoke/MethodHandle" ∧ y.cls ≠ "java/lang/invoke/VarHandle" ∧ (parseMethodDescriptor y.desc).map (fun d => d.parameters.length) = some As.length)
    (hR : d + 1 ≤ d0 ∧ nL ≤ 80) (hb : w b = some (.inr (ci, ow, fs))) (hci : CL[ci]? = some r0) (hr0 : r0.1 = C) (hst : stk = As.reverse ++ .ref b :: st) (hcat : (st.map fun v => v.category).sum ≤ 8) (hF : ∀ n, F n → F0 n) (hfl : ∀ v, some v ∈ ls → xok F v) (hfs : ∀ v ∈ st, xok F v) (hk : c + k' ≤ k ∧ s + n' ≤ n)
    (kk : V l M (rmD d0 c0 s0, F0, Q0, X0) (pc + 3) ls (v.toList ++ st) w2 k' n') : V l M (rmD d0 c0 s0, F0, Q0, X0) pc ls stk w k n :=
  V_callV hM hd hG hy (xfit_D hR.1 hR.2 hk.1 hk.2) hb hci hr0 hst hcat hF hfl hfs (fun r w' h => by obtain ⟨rfl, rfl⟩ := h; exact kk) (fun _ _ _ h => h.elim)
theorem Vr_i {w2 : xW} (hM : Cr l y cc nL none d c s F (.ref b :: As) w v w2) (hd : decode M.2.1 pc = .ok (.invokespecial index, 3)) (hG : Cond.code y cc nL none ∈ lw_all) (hini : Cond.initialized y.cls ∈ lw_all) (hlk : Cond.methodLink M.1 index y ∈ lw_all) (him : Cond.instanceMethod y ∈ lw_all) (hnm : y.name = "<init>") (hy : y.cls ≠ "java/lang/invoke/MethodHandle" ∧ y.cls ≠ "java/lang/invoke/VarHandle" ∧ (parseMethodDescriptor y.desc).map (fun d => d.parameters.length) = some As.length)
    (hR : d + 1 ≤ d0 ∧ nL ≤ 80) (hst : stk = As.reverse ++ .ref b :: st) (hcat : (st.map fun v => v.category).sum ≤ 8) (hF : ∀ n, F n → F0 n) (hfl : ∀ v, some v ∈ ls → xok F v) (hfs : ∀ v ∈ st, xok F v) (hk : c + k' ≤ k ∧ s + n' ≤ n)
    (kk : V l M (rmD d0 c0 s0, F0, Q0, X0) (pc + 3) ls (v.toList ++ st) w2 k' n') : V l M (rmD d0 c0 s0, F0, Q0, X0) pc ls stk w k n :=
  V_callI hM hd hG hini hlk him hnm hy (xfit_D hR.1 hR.2 hk.1 hk.2) hst hcat hF hfl hfs (fun r w' h => by obtain ⟨rfl, rfl⟩ := h; exact kk) (fun _ _ _ h => h.elim)
theorem Vr_in {w2 : xW} {host : String} (hM : Cr l y cc nL none d c s F (.ref b :: As) w v w2) (hd : decode M.2.1 pc = .ok (.invokespecial index, 3)) (hG : Cond.code y cc nL none ∈ lw_all) (hini : Cond.initialized y.cls ∈ lw_all) (hlk : Cond.methodLinkNest M.1 index y host ∈ xNw) (him : Cond.instanceMethod y ∈ lw_all) (hnm : y.name = "<init>") (hy : y.cls ≠ "java/lang/invoke/MethodHandle" ∧ y.cls ≠ "java/lang/invoke/VarHandle" ∧ (parseMethodDescriptor y.desc).map (fun d => d.parameters.length) = some As.length)
    (hR : d + 1 ≤ d0 ∧ nL ≤ 80) (hst : stk = As.reverse ++ .ref b :: st) (hcat : (st.map fun v => v.category).sum ≤ 8) (hF : ∀ n, F n → F0 n) (hfl : ∀ v, some v ∈ ls → xok F v) (hfs : ∀ v ∈ st, xok F v) (hk : c + k' ≤ k ∧ s + n' ≤ n)
    (kk : V l M (rmD d0 c0 s0, F0, Q0, X0) (pc + 3) ls (v.toList ++ st) w2 k' n') : V l M (rmD d0 c0 s0, F0, Q0, X0) pc ls stk w k n :=
  V_callIN hM hd (lw_meth hG) hini hlk him hnm hy (xfit_D hR.1 hR.2 hk.1 hk.2) hst hcat hF hfl hfs (fun r w' h => by obtain ⟨rfl, rfl⟩ := h; exact kk) (fun _ _ _ h => h.elim)
end VZ
