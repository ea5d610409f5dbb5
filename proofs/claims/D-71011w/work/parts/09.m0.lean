/-! THE MODEL'S WORLD: S j i is what field j (its place in TX5) holds at i (at 0 where it is no array). Names: the object 1000, the array of field j 1001 + j -/
set_option maxRecDepth 100000
abbrev xSt : Type := Nat → Nat → Int32
/-- rooms by height of calls -/
def rmD (d c s : Nat) : Room := { frames := 20 + d, cells := c, slots := s, locals := 20000 + 100 * d }
theorem xfit_D {d d' c c' s s' nL k n k' n' : Nat} {F F' : Nat → Prop} {Q Q' : Option Value → xW → Prop} {X X' : String → Nat → xW → Prop} (h : d' + 1 ≤ d) (hn : nL ≤ 80) (hc : c' + k' ≤ k) (hs : s' + n' ≤ n) : xfit (rmD d c s, F, Q, X) (rmD d' c' s', F', Q', X') nL k n k' n' := by
  refine ⟨⟨?_, ?_⟩, hc, hs⟩
  · show 20 + d' + 1 ≤ 20 + d
    omega
  · show 8 + (nL + 11) + (20000 + 100 * d') ≤ 20000 + 100 * d
    omega
def mlen (j : Nat) : Nat := match j with
  | 0 => 2
  | 1 => 98
  | 3 => 9
  | 4 => 9
  | 6 => 12
  | 7 => 12
  | 8 => 12
  | 9 => 12
  | 11 => 9
  | 12 => 9
  | 14 => 6
  | 15 => 6
  | 16 => 6
  | 18 => 6
  | 19 => 6
  | 20 => 6
  | 23 => 9
  | 24 => 9
  | 27 => 8
  | 28 => 8
  | 29 => 12
  | 30 => 192
  | 31 => 192
  | 32 => 288
  | 33 => 2
  | 35 => 8
  | 36 => 8
  | 37 => 8
  | 38 => 240
  | 39 => 4
  | 40 => 4
  | 41 => 4
  | 42 => 240
  | 43 => 60
  | _ => 0
theorem mlen_lt (j : Nat) : mlen j < 2 ^ 31 := by
  unfold mlen
  split <;> decide
def mty (j : Nat) : FieldType := if j = 39 then .boolean else .int
def mf (S : xSt) (j : Nat) : Value := if mlen j = 0 then .int (S j 0) else .ref (1001 + j)
def mfs (S : xSt) : List Value := (List.range 45).map (mf S)
theorem mfs_at (S : xSt) {j : Nat} (h : j < 45) : (mfs S)[j]? = some (mf S j) := by
  unfold mfs
  rw [List.getElem?_map, List.getElem?_range h]
  rfl
def mW (S : xSt) : xW := fun n => if n = 1000 then some (.inr (12, true, mfs S)) else if 1001 ≤ n ∧ n < 1046 ∧ mlen (n - 1001) ≠ 0 then some (.inl (mty (n - 1001), true, mlen (n - 1001), fun i => .int (S (n - 1001) i))) else none
theorem mW_obj (S : xSt) : mW S 1000 = some (.inr (12, true, mfs S)) := if_pos rfl
theorem mW_arr (S : xSt) {j : Nat} (hj : j < 45) (hl : mlen j ≠ 0) : mW S (1001 + j) = some (.inl (mty j, true, mlen j, fun i => .int (S j i))) := by
  unfold mW
  rw [if_neg (by omega), if_pos (by rw [Nat.add_sub_cancel_left]; exact ⟨by omega, by omega, hl⟩), Nat.add_sub_cancel_left]
def mwr (S : xSt) (j i : Nat) (v : Int32) : xSt := fun r q => if r = j ∧ q = i then v else S r q
theorem mwr_s (S : xSt) (j i : Nat) (v : Int32) : mwr S j i v j i = v := if_pos ⟨rfl, rfl⟩
theorem mwr_r (S : xSt) {j r : Nat} (i q : Nat) (v : Int32) (h : r ≠ j) : mwr S j i v r q = S r q := if_neg fun z => h z.1
theorem mwr_q (S : xSt) {i q : Nat} (j r : Nat) (v : Int32) (h : q ≠ i) : mwr S j i v r q = S r q := if_neg fun z => h z.2
theorem mW_wrA (S : xSt) {j : Nat} (hj : j < 45) (hl : mlen j ≠ 0) (i : Nat) (v : Int32) : upw (mW S) (1001 + j) (.inl (mty j, true, mlen j, xup (fun i => .int (S j i)) i (.int v))) = mW (mwr S j i v) := by
  have hfs : mfs (mwr S j i v) = mfs S := by
    unfold mfs
    refine List.map_congr_left fun r _ => ?_
    unfold mf
    by_cases e : mlen r = 0
    · rw [if_pos e, if_pos e, mwr_r S i 0 v (fun z => hl (by rw [← z]; exact e))]
    · rw [if_neg e, if_neg e]
  funext n
  by_cases e : n = 1001 + j
  · subst e
    rw [upw_self, mW_arr _ hj hl]
    congr 5
    funext q
    unfold xup mwr
    by_cases e : q = i
    · rw [if_pos e, if_pos ⟨rfl, e⟩]
    · rw [if_neg e, if_neg (fun z => e z.2)]
  · rw [upw_ne e]
    unfold mW
    rw [hfs]
    by_cases e0 : n = 1000
    · rw [if_pos e0, if_pos e0]
    · rw [if_neg e0, if_neg e0]
      by_cases e1 : 1001 ≤ n ∧ n < 1046 ∧ mlen (n - 1001) ≠ 0
      · rw [if_pos e1, if_pos e1]
        congr 5
        funext q
        rw [mwr_r S i q v (by omega)]
      · rw [if_neg e1, if_neg e1]
theorem mW_wrI (S : xSt) {j : Nat} (hj : j < 45) (hl : mlen j = 0) (v : Int32) : upw (mW S) 1000 (.inr (12, true, (mfs S).set j (.int v))) = mW (mwr S j 0 v) := by
  have hfs : mfs (mwr S j 0 v) = (mfs S).set j (.int v) := by
    refine List.ext_getElem? fun r => ?_
    by_cases hr : r < 45
    · rw [mfs_at _ hr]
      by_cases e : j = r
      · subst e
        rw [List.getElem?_set_self (by unfold mfs; rw [List.length_map, List.length_range]; exact hj)]
        unfold mf
        rw [if_pos hl, mwr_s]
      · rw [List.getElem?_set_ne e, mfs_at _ hr]
        unfold mf
        rw [mwr_r S 0 0 v (Ne.symm e)]
    · rw [List.getElem?_eq_none (by unfold mfs; rw [List.length_map, List.length_range]; omega), List.getElem?_eq_none (by rw [List.length_set]; unfold mfs; rw [List.length_map, List.length_range]; omega)]
  funext n
  by_cases e : n = 1000
  · subst e
    rw [upw_self, mW_obj, hfs]
  · rw [upw_ne e]
    unfold mW
    rw [if_neg e, if_neg e]
    by_cases e1 : 1001 ≤ n ∧ n < 1046 ∧ mlen (n - 1001) ≠ 0
    · rw [if_pos e1, if_pos e1]
      congr 5
      funext q
      rw [mwr_r S 0 q v (fun z => e1.2.2 (by rw [z]; exact hl))]
    · rw [if_neg e1, if_neg e1]
theorem k_X5 : xCls 12 RX5 TX5 tyX5 45 := ⟨cl_X5, in_X5, tyX5_ok, nmX5⟩
theorem tyX5_i : ∀ j, j < 45 → mlen j = 0 → tyX5 j = .int := by decide +kernel
theorem TX5_f : ∀ j, j < 45 → mlen j = 0 → (TX5 j).2.2.2 = false := by decide +kernel
section VM
variable {l : Launch} {M : xM} {Sp : xS} {pc : Nat} {ls : List (Option Value)} {st : List Value} {S : xSt} {k n : Nat}
theorem Vm_getA {index : Nat} (j : Nat) (hd : decode M.2.1 pc = .ok (.getfield index, 3)) (hlk : Cond.fieldLink M.1 index (TX5 j).1 (TX5 j).2.1 (TX5 j).2.2.1 ∈ lw_all) (hj : j < 45 ∧ mlen j ≠ 0) (kk : V l M Sp (pc + 3) ls (.ref (1001 + j) :: st) (mW S) k n) : V l M Sp pc ls (.ref 1000 :: st) (mW S) k n :=
  V_getf k_X5 hd hj.1 hlk (mW_obj S) (by rw [mfs_at S hj.1]; unfold mf; rw [if_neg hj.2]) kk
theorem Vm_getI {index : Nat} (j : Nat) (hd : decode M.2.1 pc = .ok (.getfield index, 3)) (hlk : Cond.fieldLink M.1 index (TX5 j).1 (TX5 j).2.1 (TX5 j).2.2.1 ∈ lw_all) (hj : j < 45 ∧ mlen j = 0) (kk : V l M Sp (pc + 3) ls (.int (S j 0) :: st) (mW S) k n) : V l M Sp pc ls (.ref 1000 :: st) (mW S) k n :=
  V_getf k_X5 hd hj.1 hlk (mW_obj S) (by rw [mfs_at S hj.1]; unfold mf; rw [if_pos hj.2]) kk
theorem Vm_putI {index : Nat} {x : Int32} (j : Nat) (hd : decode M.2.1 pc = .ok (.putfield index, 3)) (hlk : Cond.fieldLink M.1 index (TX5 j).1 (TX5 j).2.1 (TX5 j).2.2.1 ∈ lw_all) (hj : j < 45 ∧ mlen j = 0) (kk : V l M Sp (pc + 3) ls st (mW (mwr S j 0 x)) k n) : V l M Sp pc ls (.int x :: .ref 1000 :: st) (mW S) k n := by
  have ht := tyX5_i j hj.1 hj.2
  refine V_putf k_X5 hd hj.1 hlk (TX5_f j hj.1 hj.2) (mW_obj S) (by unfold mfs; rw [List.length_map, List.length_range]; exact hj.1) (fun _ => by rw [ht]; rfl) (fun _ => by rw [ht]; rfl) ?_
  rw [mW_wrI S hj.1 hj.2]
  exact kk
theorem Vm_iald {i : Int32} {j x : Nat} (hd : decode M.2.1 pc = .ok (.iaload, 1)) (hi : i = nI x) (hx : x < mlen j) (hj : j < 45 ∧ mty j = .int) (kk : V l M Sp (pc + 1) ls (.int (S j x) :: st) (mW S) k n) : V l M Sp pc ls (.int i :: .ref (1001 + j) :: st) (mW S) k n := by
  have h2 := mlen_lt j
  have hw := mW_arr S hj.1 (show mlen j ≠ 0 by omega)
  rw [hj.2] at hw
  subst hi
  exact V_iald hd hw (vp_in_nI hx h2) (by rw [nI_clamp (by omega)]) kk
theorem Vm_zald {i : Int32} {j x : Nat} (hd : decode M.2.1 pc = .ok (.baload, 1)) (hi : i = nI x) (hx : x < mlen j) (hj : j < 45 ∧ mty j = .boolean) (kk : V l M Sp (pc + 1) ls (.int (S j x) :: st) (mW S) k n) : V l M Sp pc ls (.int i :: .ref (1001 + j) :: st) (mW S) k n := by
  have h2 := mlen_lt j
  have hw := mW_arr S hj.1 (show mlen j ≠ 0 by omega)
  rw [hj.2] at hw
  subst hi
  exact V_zald hd hw (vp_in_nI hx h2) (by rw [nI_clamp (by omega)]) kk
theorem Vm_iast {i v : Int32} {j x : Nat} (hd : decode M.2.1 pc = .ok (.iastore, 1)) (hi : i = nI x) (hx : x < mlen j) (hj : j < 45 ∧ mty j = .int) (kk : V l M Sp (pc + 1) ls st (mW (mwr S j x v)) k n) : V l M Sp pc ls (.int v :: .int i :: .ref (1001 + j) :: st) (mW S) k n := by
  have h2 := mlen_lt j
  have h3 : mlen j ≠ 0 := by omega
  have hw := mW_arr S hj.1 h3
  rw [hj.2] at hw
  subst hi
  refine V_iast hd hw (vp_in_nI hx h2) ?_
  rw [nI_clamp (by omega), ← hj.2, mW_wrA S hj.1 h3]
  exact kk
theorem Vm_zast {i v v' : Int32} {j x : Nat} (hd : decode M.2.1 pc = .ok (.bastore, 1)) (hi : i = nI x) (hx : x < mlen j) (hj : j < 45 ∧ mty j = .boolean) (hv : vp_nar .boolean v = v') (kk : V l M Sp (pc + 1) ls st (mW (mwr S j x v')) k n) : V l M Sp pc ls (.int v :: .int i :: .ref (1001 + j) :: st) (mW S) k n := by
  have h2 := mlen_lt j
  have h3 : mlen j ≠ 0 := by omega
  have hw := mW_arr S hj.1 h3
  rw [hj.2] at hw
  subst hi
  refine V_zast hd hw (vp_in_nI hx h2) ?_
  rw [nI_clamp (by omega), hv, ← hj.2, mW_wrA S hj.1 h3]
  exact kk
/-- a contract of the model's methods: no cell made, nothing thrown -/
def Cm (l : Launch) (y : MethodName) (cc : ByteArray) (nL : Nat) (ret : Option FieldType) (d : Nat) (As : List Value) (S : xSt) (P : Option Value → xSt → Prop) : Prop :=
  Cn l y (ws_ y cc nL ret) (rmD d 0 0, xF0, (fun r w' => ∃ S', w' = mW S' ∧ P r S'), xX0) (.ref 1000 :: As) (mW S)
/-- .. of its static ones -/
def Cms (l : Launch) (y : MethodName) (cc : ByteArray) (nL : Nat) (ret : Option FieldType) (d : Nat) (As : List Value) (P : Option Value → Prop) : Prop :=
  ∀ w, Cn l y (ws_ y cc nL ret) (rmD d 0 0, xF0, (fun r w' => w' = w ∧ P r), xX0) As w
theorem Cm_start {y : MethodName} {cc : ByteArray} {nL : Nat} {ret : Option FieldType} {d : Nat} {As : List Value} {P : Option Value → xSt → Prop} {ls : List (Option Value)} (hy : plainName y.cls = true) (hls : xent nL (.ref 1000 :: As) = ls) (hlen : (xargs (.ref 1000 :: As)).length ≤ nL)
    (h : ∀ Q : Option Value → xW → Prop, (∀ r S', P r S' → Q r (mW S')) → V l (y.cls, cc, nL, ret, [], y.name) (rmD d 0 0, xF0, Q, xX0) 0 ls [] (mW S) 0 0) : Cm l y cc nL ret d As S P :=
  Cn_start hy hls hlen (fun _ _ _ h => h) (h _ fun r S' hP => ⟨S', rfl, hP⟩)
theorem Cms_start {y : MethodName} {cc : ByteArray} {nL : Nat} {ret : Option FieldType} {d : Nat} {As : List Value} {P : Option Value → Prop} {ls : List (Option Value)} (hy : plainName y.cls = true) (hls : xent nL As = ls) (hlen : (xargs As).length ≤ nL)
    (h : ∀ (w : xW) (Q : Option Value → xW → Prop), (∀ r, P r → Q r w) → V l (y.cls, cc, nL, ret, [], y.name) (rmD d 0 0, xF0, Q, xX0) 0 ls [] w 0 0) : Cms l y cc nL ret d As P :=
  fun w => Cn_start hy hls hlen (fun _ _ _ h => h) (h w _ fun r hP => ⟨rfl, hP⟩)
theorem Vm_call {y : MethodName} {cc : ByteArray} {nL : Nat} {ret : Option FieldType} {d d0 c0 s0 index : Nat} {As : List Value} {F0 : Nat → Prop} {Q0 : Option Value → xW → Prop} {X0 : String → Nat → xW → Prop} {P : Option Value → xSt → Prop} {stk : List Value} (hM : Cm l y cc nL ret d As S P) (hd : decode M.2.1 pc = .ok (.invokevirtual index, 3)) (hG : GoodIn lw_all (wsV M.1 index RX5 y (ws_ y cc nL ret)))
    (hy : y.cls = RX5 ∧ y.cls ≠ "java/lang/invoke/MethodHandle" ∧ y.cls ≠ "java/lang/invoke/VarHandle" ∧ (parseMethodDescriptor y.desc).map (fun d => d.parameters.length) = some As.length)
    (hR : d + 1 ≤ d0 ∧ nL ≤ 80) (hst : stk = As.reverse ++ .ref 1000 :: st) (hcat : (st.map fun v => v.category).sum ≤ 8)
    (kk : ∀ (r : Option Value) (S' : xSt), P r S' → V l M (rmD d0 c0 s0, F0, Q0, X0) (pc + 3) ls (r.toList ++ st) (mW S') k n) : V l M (rmD d0 c0 s0, F0, Q0, X0) pc ls stk (mW S) k n :=
  V_callV0 hM hd hG hy (xfit_D hR.1 hR.2 (Nat.le_of_eq (Nat.zero_add k)) (Nat.le_of_eq (Nat.zero_add n))) (mW_obj S) cl_X5 rfl hst hcat (fun r w' h => by obtain ⟨S', rfl, hP⟩ := h; exact kk r S' hP)
theorem Vs_call {y : MethodName} {cc : ByteArray} {nL : Nat} {ret : Option FieldType} {d d0 c0 s0 index : Nat} {As : List Value} {F0 : Nat → Prop} {Q0 : Option Value → xW → Prop} {X0 : String → Nat → xW → Prop} {P : Option Value → Prop} {stk : List Value} {w : xW} (hM : Cms l y cc nL ret d As P) (hd : decode M.2.1 pc = .ok (.invokestatic index, 3)) (hG : GoodIn lw_all (va_wsS M.1 index y (ws_ y cc nL ret)))
    (hy : y.cls ≠ "java/lang/invoke/MethodHandle" ∧ y.cls ≠ "java/lang/invoke/VarHandle" ∧ (parseMethodDescriptor y.desc).map (fun d => d.parameters.length) = some As.length)
    (hR : d + 1 ≤ d0 ∧ nL ≤ 80) (hst : stk = As.reverse ++ st) (hcat : (st.map fun v => v.category).sum ≤ 8)
    (kk : ∀ (r : Option Value), P r → V l M (rmD d0 c0 s0, F0, Q0, X0) (pc + 3) ls (r.toList ++ st) w k n) : V l M (rmD d0 c0 s0, F0, Q0, X0) pc ls stk w k n :=
  V_callS0 (hM w) hd hG hy (xfit_D hR.1 hR.2 (Nat.le_of_eq (Nat.zero_add k)) (Nat.le_of_eq (Nat.zero_add n))) hst hcat (fun r w' h => by obtain ⟨rfl, hP⟩ := h; exact kk r hP)
theorem Vm_callI {y : MethodName} {cc : ByteArray} {nL : Nat} {ret : Option FieldType} {d d0 c0 s0 index : Nat} {As : List Value} {F0 : Nat → Prop} {Q0 : Option Value → xW → Prop} {X0 : String → Nat → xW → Prop} {P : Int32 → xSt → Prop} {stk : List Value} (hM : Cm l y cc nL ret d As S (fun r S' => ∃ x, r = some (.int x) ∧ P x S')) (hd : decode M.2.1 pc = .ok (.invokevirtual index, 3)) (hG : GoodIn lw_all (wsV M.1 index RX5 y (ws_ y cc nL ret)))
    (hy : y.cls = RX5 ∧ y.cls ≠ "java/lang/invoke/MethodHandle" ∧ y.cls ≠ "java/lang/invoke/VarHandle" ∧ (parseMethodDescriptor y.desc).map (fun d => d.parameters.length) = some As.length)
    (hR : d + 1 ≤ d0 ∧ nL ≤ 80) (hst : stk = As.reverse ++ .ref 1000 :: st) (hcat : (st.map fun v => v.category).sum ≤ 8)
    (kk : ∀ (r : Int32) (S' : xSt), P r S' → V l M (rmD d0 c0 s0, F0, Q0, X0) (pc + 3) ls (.int r :: st) (mW S') k n) : V l M (rmD d0 c0 s0, F0, Q0, X0) pc ls stk (mW S) k n :=
  Vm_call hM hd hG hy hR hst hcat (fun r S' h => by obtain ⟨x, rfl, hP⟩ := h; exact kk x S' hP)
theorem Vm_callL {y : MethodName} {cc : ByteArray} {nL : Nat} {ret : Option FieldType} {d d0 c0 s0 index : Nat} {As : List Value} {F0 : Nat → Prop} {Q0 : Option Value → xW → Prop} {X0 : String → Nat → xW → Prop} {P : Int64 → xSt → Prop} {stk : List Value} (hM : Cm l y cc nL ret d As S (fun r S' => ∃ x, r = some (.long x) ∧ P x S')) (hd : decode M.2.1 pc = .ok (.invokevirtual index, 3)) (hG : GoodIn lw_all (wsV M.1 index RX5 y (ws_ y cc nL ret)))
    (hy : y.cls = RX5 ∧ y.cls ≠ "java/lang/invoke/MethodHandle" ∧ y.cls ≠ "java/lang/invoke/VarHandle" ∧ (parseMethodDescriptor y.desc).map (fun d => d.parameters.length) = some As.length)
    (hR : d + 1 ≤ d0 ∧ nL ≤ 80) (hst : stk = As.reverse ++ .ref 1000 :: st) (hcat : (st.map fun v => v.category).sum ≤ 8)
    (kk : ∀ (r : Int64) (S' : xSt), P r S' → V l M (rmD d0 c0 s0, F0, Q0, X0) (pc + 3) ls (.long r :: st) (mW S') k n) : V l M (rmD d0 c0 s0, F0, Q0, X0) pc ls stk (mW S) k n :=
  Vm_call hM hd hG hy hR hst hcat (fun r S' h => by obtain ⟨x, rfl, hP⟩ := h; exact kk x S' hP)
theorem Vm_callV {y : MethodName} {cc : ByteArray} {nL : Nat} {ret : Option FieldType} {d d0 c0 s0 index : Nat} {As : List Value} {F0 : Nat → Prop} {Q0 : Option Value → xW → Prop} {X0 : String → Nat → xW → Prop} {P : xSt → Prop} {stk : List Value} (hM : Cm l y cc nL ret d As S (fun r S' => r = none ∧ P S')) (hd : decode M.2.1 pc = .ok (.invokevirtual index, 3)) (hG : GoodIn lw_all (wsV M.1 index RX5 y (ws_ y cc nL ret)))
    (hy : y.cls = RX5 ∧ y.cls ≠ "java/lang/invoke/MethodHandle" ∧ y.cls ≠ "java/lang/invoke/VarHandle" ∧ (parseMethodDescriptor y.desc).map (fun d => d.parameters.length) = some As.length)
    (hR : d + 1 ≤ d0 ∧ nL ≤ 80) (hst : stk = As.reverse ++ .ref 1000 :: st) (hcat : (st.map fun v => v.category).sum ≤ 8)
    (kk : ∀ (S' : xSt), P S' → V l M (rmD d0 c0 s0, F0, Q0, X0) (pc + 3) ls st (mW S') k n) : V l M (rmD d0 c0 s0, F0, Q0, X0) pc ls stk (mW S) k n :=
  Vm_call hM hd hG hy hR hst hcat (fun r S' h => by obtain ⟨rfl, hP⟩ := h; exact kk S' hP)
theorem Vs_callI {y : MethodName} {cc : ByteArray} {nL : Nat} {ret : Option FieldType} {d d0 c0 s0 index : Nat} {As : List Value} {F0 : Nat → Prop} {Q0 : Option Value → xW → Prop} {X0 : String → Nat → xW → Prop} {P : Int32 → Prop} {stk : List Value} {w : xW} (hM : Cms l y cc nL ret d As (fun r => ∃ x, r = some (.int x) ∧ P x)) (hd : decode M.2.1 pc = .ok (.invokestatic index, 3)) (hG : GoodIn lw_all (va_wsS M.1 index y (ws_ y cc nL ret)))
    (hy : y.cls ≠ "java/lang/invoke/MethodHandle" ∧ y.cls ≠ "java/lang/invoke/VarHandle" ∧ (parseMethodDescriptor y.desc).map (fun d => d.parameters.length) = some As.length)
    (hR : d + 1 ≤ d0 ∧ nL ≤ 80) (hst : stk = As.reverse ++ st) (hcat : (st.map fun v => v.category).sum ≤ 8)
    (kk : ∀ (r : Int32), P r → V l M (rmD d0 c0 s0, F0, Q0, X0) (pc + 3) ls (.int r :: st) w k n) : V l M (rmD d0 c0 s0, F0, Q0, X0) pc ls stk w k n :=
  Vs_call hM hd hG hy hR hst hcat (fun r h => by obtain ⟨x, rfl, hP⟩ := h; exact kk x hP)
theorem Vs_callL {y : MethodName} {cc : ByteArray} {nL : Nat} {ret : Option FieldType} {d d0 c0 s0 index : Nat} {As : List Value} {F0 : Nat → Prop} {Q0 : Option Value → xW → Prop} {X0 : String → Nat → xW → Prop} {P : Int64 → Prop} {stk : List Value} {w : xW} (hM : Cms l y cc nL ret d As (fun r => ∃ x, r = some (.long x) ∧ P x)) (hd : decode M.2.1 pc = .ok (.invokestatic index, 3)) (hG : GoodIn lw_all (va_wsS M.1 index y (ws_ y cc nL ret)))
    (hy : y.cls ≠ "java/lang/invoke/MethodHandle" ∧ y.cls ≠ "java/lang/invoke/VarHandle" ∧ (parseMethodDescriptor y.desc).map (fun d => d.parameters.length) = some As.length)
    (hR : d + 1 ≤ d0 ∧ nL ≤ 80) (hst : stk = As.reverse ++ st) (hcat : (st.map fun v => v.category).sum ≤ 8)
    (kk : ∀ (r : Int64), P r → V l M (rmD d0 c0 s0, F0, Q0, X0) (pc + 3) ls (.long r :: st) w k n) : V l M (rmD d0 c0 s0, F0, Q0, X0) pc ls stk w k n :=
  Vs_call hM hd hG hy hR hst hcat (fun r h => by obtain ⟨x, rfl, hP⟩ := h; exact kk x hP)
theorem Vm_callIF {y : MethodName} {cc : ByteArray} {nL : Nat} {ret : Option FieldType} {d d0 c0 s0 index : Nat} {As : List Value} {F0 : Nat → Prop} {Q0 : Option Value → xW → Prop} {X0 : String → Nat → xW → Prop} {F1 : xSt} {v1 : Int32} {stk : List Value} (hM : Cm l y cc nL ret d As S (fun r S' => ∃ x, r = some (.int x) ∧ x = v1 ∧ S' = F1)) (hd : decode M.2.1 pc = .ok (.invokevirtual index, 3)) (hG : GoodIn lw_all (wsV M.1 index RX5 y (ws_ y cc nL ret)))
    (hy : y.cls = RX5 ∧ y.cls ≠ "java/lang/invoke/MethodHandle" ∧ y.cls ≠ "java/lang/invoke/VarHandle" ∧ (parseMethodDescriptor y.desc).map (fun d => d.parameters.length) = some As.length)
    (hR : d + 1 ≤ d0 ∧ nL ≤ 80) (hst : stk = As.reverse ++ .ref 1000 :: st) (hcat : (st.map fun v => v.category).sum ≤ 8)
    (kk : V l M (rmD d0 c0 s0, F0, Q0, X0) (pc + 3) ls (.int v1 :: st) (mW F1) k n) : V l M (rmD d0 c0 s0, F0, Q0, X0) pc ls stk (mW S) k n :=
  Vm_callI hM hd hG hy hR hst hcat (fun r S' h => by rw [h.1, h.2]; exact kk)
theorem Vm_callLF {y : MethodName} {cc : ByteArray} {nL : Nat} {ret : Option FieldType} {d d0 c0 s0 index : Nat} {As : List Value} {F0 : Nat → Prop} {Q0 : Option Value → xW → Prop} {X0 : String → Nat → xW → Prop} {F1 : xSt} {v1 : Int64} {stk : List Value} (hM : Cm l y cc nL ret d As S (fun r S' => ∃ x, r = some (.long x) ∧ x = v1 ∧ S' = F1)) (hd : decode M.2.1 pc = .ok (.invokevirtual index, 3)) (hG : GoodIn lw_all (wsV M.1 index RX5 y (ws_ y cc nL ret)))
    (hy : y.cls = RX5 ∧ y.cls ≠ "java/lang/invoke/MethodHandle" ∧ y.cls ≠ "java/lang/invoke/VarHandle" ∧ (parseMethodDescriptor y.desc).map (fun d => d.parameters.length) = some As.length)
    (hR : d + 1 ≤ d0 ∧ nL ≤ 80) (hst : stk = As.reverse ++ .ref 1000 :: st) (hcat : (st.map fun v => v.category).sum ≤ 8)
    (kk : V l M (rmD d0 c0 s0, F0, Q0, X0) (pc + 3) ls (.long v1 :: st) (mW F1) k n) : V l M (rmD d0 c0 s0, F0, Q0, X0) pc ls stk (mW S) k n :=
  Vm_callL hM hd hG hy hR hst hcat (fun r S' h => by rw [h.1, h.2]; exact kk)
theorem Vm_callVF {y : MethodName} {cc : ByteArray} {nL : Nat} {ret : Option FieldType} {d d0 c0 s0 index : Nat} {As : List Value} {F0 : Nat → Prop} {Q0 : Option Value → xW → Prop} {X0 : String → Nat → xW → Prop} {F1 : xSt} {stk : List Value} (hM : Cm l y cc nL ret d As S (fun r S' => r = none ∧ S' = F1)) (hd : decode M.2.1 pc = .ok (.invokevirtual index, 3)) (hG : GoodIn lw_all (wsV M.1 index RX5 y (ws_ y cc nL ret)))
    (hy : y.cls = RX5 ∧ y.cls ≠ "java/lang/invoke/MethodHandle" ∧ y.cls ≠ "java/lang/invoke/VarHandle" ∧ (parseMethodDescriptor y.desc).map (fun d => d.parameters.length) = some As.length)
    (hR : d + 1 ≤ d0 ∧ nL ≤ 80) (hst : stk = As.reverse ++ .ref 1000 :: st) (hcat : (st.map fun v => v.category).sum ≤ 8)
    (kk : V l M (rmD d0 c0 s0, F0, Q0, X0) (pc + 3) ls st (mW F1) k n) : V l M (rmD d0 c0 s0, F0, Q0, X0) pc ls stk (mW S) k n :=
  Vm_callV hM hd hG hy hR hst hcat (fun S' h => by rw [h]; exact kk)
theorem Vs_callIF {y : MethodName} {cc : ByteArray} {nL : Nat} {ret : Option FieldType} {d d0 c0 s0 index : Nat} {As : List Value} {F0 : Nat → Prop} {Q0 : Option Value → xW → Prop} {X0 : String → Nat → xW → Prop} {v1 : Int32} {stk : List Value} {w : xW} (hM : Cms l y cc nL ret d As (fun r => ∃ x, r = some (.int x) ∧ x = v1)) (hd : decode M.2.1 pc = .ok (.invokestatic index, 3)) (hG : GoodIn lw_all (va_wsS M.1 index y (ws_ y cc nL ret)))
    (hy : y.cls ≠ "java/lang/invoke/MethodHandle" ∧ y.cls ≠ "java/lang/invoke/VarHandle" ∧ (parseMethodDescriptor y.desc).map (fun d => d.parameters.length) = some As.length)
    (hR : d + 1 ≤ d0 ∧ nL ≤ 80) (hst : stk = As.reverse ++ st) (hcat : (st.map fun v => v.category).sum ≤ 8)
    (kk : V l M (rmD d0 c0 s0, F0, Q0, X0) (pc + 3) ls (.int v1 :: st) w k n) : V l M (rmD d0 c0 s0, F0, Q0, X0) pc ls stk w k n :=
  Vs_callI hM hd hG hy hR hst hcat (fun r h => by rw [h]; exact kk)
theorem Vs_callLF {y : MethodName} {cc : ByteArray} {nL : Nat} {ret : Option FieldType} {d d0 c0 s0 index : Nat} {As : List Value} {F0 : Nat → Prop} {Q0 : Option Value → xW → Prop} {X0 : String → Nat → xW → Prop} {v1 : Int64} {stk : List Value} {w : xW} (hM : Cms l y cc nL ret d As (fun r => ∃ x, r = some (.long x) ∧ x = v1)) (hd : decode M.2.1 pc = .ok (.invokestatic index, 3)) (hG : GoodIn lw_all (va_wsS M.1 index y (ws_ y cc nL ret)))
    (hy : y.cls ≠ "java/lang/invoke/MethodHandle" ∧ y.cls ≠ "java/lang/invoke/VarHandle" ∧ (parseMethodDescriptor y.desc).map (fun d => d.parameters.length) = some As.length)
    (hR : d + 1 ≤ d0 ∧ nL ≤ 80) (hst : stk = As.reverse ++ st) (hcat : (st.map fun v => v.category).sum ≤ 8)
    (kk : V l M (rmD d0 c0 s0, F0, Q0, X0) (pc + 3) ls (.long v1 :: st) w k n) : V l M (rmD d0 c0 s0, F0, Q0, X0) pc ls stk w k n :=
  Vs_callL hM hd hG hy hR hst hcat (fun r h => by rw [h]; exact kk)
end VM
section VN
variable {l : Launch} {M : xM} {S : xS} {pc : Nat} {ls : List (Option Value)} {st : List Value} {w : xW} {k n : Nat}
theorem iinc_1 (a : Nat) : nI a + Int32.ofInt 1 = nI (a + 1) := nI_1 a
theorem V_iaddN {a b : Nat} (hd : decode M.2.1 pc = .ok (.iadd, 1)) (kk : V l M S (pc + 1) ls (.int (nI (a + b)) :: st) w k n) : V l M S pc ls (.int (nI b) :: .int (nI a) :: st) w k n := V_iadd hd (by rw [nI_add]; exact kk)
theorem V_imulN {a b : Nat} (hd : decode M.2.1 pc = .ok (.imul, 1)) (kk : V l M S (pc + 1) ls (.int (nI (a * b)) :: st) w k n) : V l M S pc ls (.int (nI b) :: .int (nI a) :: st) w k n := V_imul hd (by rw [pk_mul]; exact kk)
theorem V_isubN {a b : Nat} (hd : decode M.2.1 pc = .ok (.isub, 1)) (hab : b ≤ a) (kk : V l M S (pc + 1) ls (.int (nI (a - b)) :: st) w k n) : V l M S pc ls (.int (nI b) :: .int (nI a) :: st) w k n := V_isub hd (by rw [pk_sub hab]; exact kk)
theorem V_icmp_eqN {a b : Nat} {off : Int} {tgt : Nat} (hd : decode M.2.1 pc = .ok (.if_icmp .eq off, 3)) (ht : (pc : Int) + off = (tgt : Int)) (ha : a < 2 ^ 31) (hb : b < 2 ^ 31) (kt : a = b → V l M S tgt ls st w k n) (kf : a ≠ b → V l M S (pc + 3) ls st w k n) : V l M S pc ls (.int (nI b) :: .int (nI a) :: st) w k n :=
  V_icmp_eq hd ht (fun z => kt ((nI_eq ha hb).mp z)) (fun z => kf (fun q => z ((nI_eq ha hb).mpr q)))
theorem V_icmp_neN {a b : Nat} {off : Int} {tgt : Nat} (hd : decode M.2.1 pc = .ok (.if_icmp .ne off, 3)) (ht : (pc : Int) + off = (tgt : Int)) (ha : a < 2 ^ 31) (hb : b < 2 ^ 31) (kt : a ≠ b → V l M S tgt ls st w k n) (kf : a = b → V l M S (pc + 3) ls st w k n) : V l M S pc ls (.int (nI b) :: .int (nI a) :: st) w k n :=
  V_icmp_ne hd ht (fun z => kt (fun q => z ((nI_eq ha hb).mpr q))) (fun z => kf ((nI_eq ha hb).mp z))
theorem V_icmp_ltN {a b : Nat} {off : Int} {tgt : Nat} (hd : decode M.2.1 pc = .ok (.if_icmp .lt off, 3)) (ht : (pc : Int) + off = (tgt : Int)) (ha : a < 2 ^ 31) (hb : b < 2 ^ 31) (kt : a < b → V l M S tgt ls st w k n) (kf : b ≤ a → V l M S (pc + 3) ls st w k n) : V l M S pc ls (.int (nI b) :: .int (nI a) :: st) w k n :=
  V_icmp_lt hd ht (fun z => kt ((nI_ltI ha hb).mp z)) (fun z => kf (Nat.not_lt.mp (fun q => z ((nI_ltI ha hb).mpr q))))
theorem V_icmp_geN {a b : Nat} {off : Int} {tgt : Nat} (hd : decode M.2.1 pc = .ok (.if_icmp .ge off, 3)) (ht : (pc : Int) + off = (tgt : Int)) (ha : a < 2 ^ 31) (hb : b < 2 ^ 31) (kt : b ≤ a → V l M S tgt ls st w k n) (kf : a < b → V l M S (pc + 3) ls st w k n) : V l M S pc ls (.int (nI b) :: .int (nI a) :: st) w k n :=
  V_icmp_ge hd ht (fun z => kt ((nI_leI hb ha).mp z)) (fun z => kf (Nat.not_le.mp (fun q => z ((nI_leI hb ha).mpr q))))
theorem V_icmp_gtN {a b : Nat} {off : Int} {tgt : Nat} (hd : decode M.2.1 pc = .ok (.if_icmp .gt off, 3)) (ht : (pc : Int) + off = (tgt : Int)) (ha : a < 2 ^ 31) (hb : b < 2 ^ 31) (kt : b < a → V l M S tgt ls st w k n) (kf : a ≤ b → V l M S (pc + 3) ls st w k n) : V l M S pc ls (.int (nI b) :: .int (nI a) :: st) w k n :=
  V_icmp_gt hd ht (fun z => kt ((nI_ltI hb ha).mp z)) (fun z => kf (Nat.not_lt.mp (fun q => z ((nI_ltI hb ha).mpr q))))
theorem V_icmp_leN {a b : Nat} {off : Int} {tgt : Nat} (hd : decode M.2.1 pc = .ok (.if_icmp .le off, 3)) (ht : (pc : Int) + off = (tgt : Int)) (ha : a < 2 ^ 31) (hb : b < 2 ^ 31) (kt : a ≤ b → V l M S tgt ls st w k n) (kf : b < a → V l M S (pc + 3) ls st w k n) : V l M S pc ls (.int (nI b) :: .int (nI a) :: st) w k n :=
  V_icmp_le hd ht (fun z => kt ((nI_leI ha hb).mp z)) (fun z => kf (Nat.not_le.mp (fun q => z ((nI_leI ha hb).mpr q))))
/-- a truth value -/
def bI (c : Prop) [Decidable c] : Int32 := if c then 1 else 0
theorem bI_t {c : Prop} [Decidable c] (h : c) : nI 1 = bI c := by unfold bI; rw [if_pos h]; rfl
theorem bI_f {c : Prop} [Decidable c] (h : ¬ c) : nI 0 = bI c := by unfold bI; rw [if_neg h]; rfl
theorem bI_0 {c : Prop} [Decidable c] : bI c = 0 ↔ ¬ c := by
  unfold bI
  by_cases h : c
  · rw [if_pos h]; exact ⟨fun e => absurd e (by decide), fun e => absurd h e⟩
  · rw [if_neg h]; exact ⟨fun _ => h, fun _ => rfl⟩
theorem bI_iff {c d : Prop} [Decidable c] [Decidable d] (h : c ↔ d) : bI c = bI d := by
  unfold bI
  by_cases e : c
  · rw [if_pos e, if_pos (h.mp e)]
  · rw [if_neg e, if_neg (fun z => e (h.mpr z))]
theorem bI_nr {c : Prop} [Decidable c] : narrow .boolean (.int (bI c)) = .int (bI c) := by
  unfold bI
  by_cases h : c
  · rw [if_pos h]; rfl
  · rw [if_neg h]; rfl
theorem V_if_eqB {c : Prop} [Decidable c] {off : Int} {tgt : Nat} (hd : decode M.2.1 pc = .ok (.ifCond .eq off, 3)) (ht : (pc : Int) + off = (tgt : Int)) (kt : ¬ c → V l M S tgt ls st w k n) (kf : c → V l M S (pc + 3) ls st w k n) : V l M S pc ls (.int (bI c) :: st) w k n :=
  V_if_eq hd ht (fun z => kt (bI_0.mp z)) (fun z => kf (Classical.byContradiction fun q => z (bI_0.mpr q)))
theorem V_if_neB {c : Prop} [Decidable c] {off : Int} {tgt : Nat} (hd : decode M.2.1 pc = .ok (.ifCond .ne off, 3)) (ht : (pc : Int) + off = (tgt : Int)) (kt : c → V l M S tgt ls st w k n) (kf : ¬ c → V l M S (pc + 3) ls st w k n) : V l M S pc ls (.int (bI c) :: st) w k n :=
  V_if_ne hd ht (fun z => kt (Classical.byContradiction fun q => z (bI_0.mpr q))) (fun z => kf (bI_0.mp z))
end VN
