/-! WHAT THE MACHINE THROWS ITSELF -/
set_option maxRecDepth 100000
/-- the heap has grown, and a name that is not in the world lies elsewhere -/
theorem xNow.name {S : xS} {s : State} {D : va_G} {ad0 ad : Nat → Nat} {A : Nat → Prop} {w : xW} {H H1 : Heap} {locs : List Loc} {a : Nat} (h : xNow S s D ad0 ad A w H locs) (hw : w a = none) (hF : S.2.1 a) (hcell : ∀ n c, w n = some c → xnr a c) (q : Nat) (oq : ∀ q : Nat, q < H.size → H1[q]? = H[q]?) (hS : va_S A s.heap H1 locs) : xNow S s D ad0 (fun n => if n = a then q else ad n) A w H1 locs := by
  have hne : ∀ (n : Nat) (d : xC), w n = some d → n ≠ a := fun n d hd e => by rw [e, hw] at hd; cases hd
  refine ⟨⟨fun n c hn => ?_, fun n m c d hn hm e => ?_⟩, hS, fun n hn => ?_⟩
  · show xat D _ s H1 (if n = a then q else ad n) c ∧ (xo c = true → A (if n = a then q else ad n))
    rw [if_neg (hne n c hn)]
    exact ⟨((h.1.1 n c hn).1.kept (oq _ (h.1.1 n c hn).1.lt)).up (hcell n c hn), (h.1.1 n c hn).2⟩
  · simp only [] at e
    rw [if_neg (hne n c hn), if_neg (hne m d hm)] at e
    exact h.1.2 n m c d hn hm e
  · show (if n = a then q else ad n) = ad0 n
    rw [if_neg (fun e => hn (by rw [e]; exact hF))]
    exact h.2.2 n hn
section V10
variable {l : Launch} {M : xM} {S : xS} {pc : Nat} {ls : List (Option Value)} {st : List Value} {w : xW} {k n : Nat}
theorem V_note {cls text : String} {names : List String} {nb k' n' : Nat} (a : Nat) (hl : l.stackTraces = false) (hcls : Bundle.fit cls = true) (hnames : ∀ n ∈ names, Bundle.fit n = true) (hsoe : (cls == "java/lang/StackOverflowError") = false) (hoom : (cls == "java/lang/OutOfMemoryError") = false)
    (hat : ∀ (args : Array Value) (s : State), (∀ w ∈ lw_all, w.before args s = true) → xEnv s → ∀ w ∈ vx_atM cls names, w.before args s = true) (hgood : ∀ w ∈ vx_atM cls names, vx_ot w = true) (htext : (text == notModelled) = false) (hnb : (stringBytes (stringToUtf16 text)).size ≤ nb) (hnb1 : nb ≤ 1000)
    (hR1 : names.length + 4 < S.1.frames ∧ 8 + 10240 ≤ S.1.locals) (hshort : 13 * names.length + 55 ≤ 10240) (hcat : (st.map fun v => v.category).sum ≤ 8) (hw : w a = none) (hF : S.2.1 a) (hcell : ∀ n c, w n = some c → xnr a c) (hls : ∀ v, some v ∈ ls → v ≠ .ref a) (hst : ∀ v ∈ st, v ≠ .ref a) (hR : 3 + k' ≤ k ∧ (nb + 10) + n' ≤ n) (kk : Vx l M S pc ls st cls a w k' n') :
    ∀ (p : Program) (e : Env) (s : State) (m : MethodId) (args : Array Value) (below : List Frame) (meth : Method) (c : Code) (H : Heap) (locs : List Loc) (lsA : Array Slot) (D : va_G) (ad0 ad : Nat → Nat) (A : Nat → Prop) (cells slots : Nat),
    xCtx M S p s m args meth c D ad0 A → xNow S s D ad0 ad A w H locs → lv_has lsA M.2.2.1 (xl ad ls) → cells + k ≤ S.1.cells → slots + n ≤ S.1.slots →
    vx_Note p l e S.1 s m args below meth c H locs cells slots (vx_MQ below (xQc D S ad0 A) (xXC D S ad0 A) args s S.1.cells S.1.slots A) (F0 m pc lsA (st.map (xv ad))) cls text := by
  intro p e s m args below meth c H locs lsA D ad0 ad A cells slots hC hN hL hk hn
  obtain ⟨c1, c2, c3, c4, c5, c6, c7, c8, c9, c10, hK, hE, hz, hFF⟩ := id hC
  refine vx_vm (A := A) (names := names) (nb := nb) c1 hl hcls hnames hsoe hoom (hat args s c7 hE) hgood hz.2.2.2.1 hz.2.2.2.2.1 hN.2.1 (by rw [c3]; exact hL.1) htext hnb hnb1 hR1.1 (by
    rw [List.map_map, show ((fun v : Value => v.category) ∘ xv ad) = fun v => v.category from funext fun v => xv_cat ad v]
    have := hR1.2
    omega) hshort (by omega) (by omega) c5 fun H1 q9 ce z1 o1 hS1 h1 h2 h3 => ?_
  have hN' := hN.name hw hF hcell q9 o1 hS1
  have := kk p e s m args below meth c H1 locs lsA D ad0 _ A (cells + 3) (slots + (nb + 10)) ce hC hN' (xl_has hL (xl_up hls)) (by omega) (by omega) (by show H1[if a = a then q9 else ad a]? = _; rw [if_pos rfl]; exact h1) h2 h3
  rw [xst_up hst] at this
  rw [if_pos rfl] at this
  exact this
end V10
section V11
variable {l : Launch} {M : xM} {S : xS} {pc : Nat} {ls : List (Option Value)} {st : List Value} {w : xW} {k n : Nat}
/-- the machine's own note that an object of the class cls, with this text, is thrown at pc -/
def Vn (l : Launch) (M : xM) (S : xS) (pc : Nat) (ls : List (Option Value)) (st : List Value) (cls text : String) (w : xW) (k n : Nat) : Prop :=
  ∀ (p : Program) (e : Env) (s : State) (m : MethodId) (args : Array Value) (below : List Frame) (meth : Method) (c : Code) (H : Heap) (locs : List Loc) (lsA : Array Slot) (D : va_G) (ad0 ad : Nat → Nat) (A : Nat → Prop) (cells slots : Nat),
    xCtx M S p s m args meth c D ad0 A → xNow S s D ad0 ad A w H locs → lv_has lsA M.2.2.1 (xl ad ls) → cells + k ≤ S.1.cells → slots + n ≤ S.1.slots →
    vx_Note p l e S.1 s m args below meth c H locs cells slots (vx_MQ below (xQc D S ad0 A) (xXC D S ad0 A) args s S.1.cells S.1.slots A) (F0 m pc lsA (st.map (xv ad))) cls text
theorem V_newaZ {atype : ArrayType} {i : Int32} (h0 : i < 0) (hd : decode M.2.1 pc = .ok (.newarray atype, 2)) (kk : ∀ tx : String, tx = toString i → Vn l M S pc ls st "java/lang/NegativeArraySizeException" tx w k n) : V l M S pc ls (.int i :: st) w k n := by
  intro p e s m args below meth c H locs lsA D ad0 ad A cells slots hC hN hL hk hn
  exact vx_newarrayZ hC.1 hC.2.1 h0 hd fun tx htx => kk tx htx p e s m args below meth c H locs lsA D ad0 ad A cells slots hC hN hL hk hn
theorem V_ialdZ {a N : Nat} {b : Bool} {f : Nat → Value} {i : Int32} (hd : decode M.2.1 pc = .ok (.iaload, 1)) (hw : w a = some (.inl (.int, b, N, f))) (hout : ¬ vp_in i N) (kk : ∀ tx : String, tx = (toString "Index " ++ toString i ++ toString " out of bounds for length " ++ toString N : String) → Vn l M S pc ls st "java/lang/ArrayIndexOutOfBoundsException" tx w k n) : V l M S pc ls (.int i :: .ref a :: st) w k n := by
  intro p e s m args below meth c H locs lsA D ad0 ad A cells slots hC hN hL hk hn
  obtain ⟨cell, q1, q2, q3, q4, q5, q6, q7⟩ := (hN.1.1 _ _ hw).1
  intro T hT X
  obtain ⟨t, t1, q⟩ := kk _ rfl p e s m args below meth c H locs lsA D ad0 ad A cells slots hC hN hL hk hn T hT X
  refine ⟨t, ?_, q⟩
  have h1 := X.ialoadOut hC.1 (by rw [hT]; exact q1) q2 (j := i) (by rw [q5]; exact Classical.byContradiction hout) (g := F0 m pc lsA (.int i :: .ref (ad a) :: st.map (xv ad))) rfl (rest := st.map (xv ad)) rfl (by rw [hC.2.1]; exact hd) t
  rw [q5] at h1
  exact h1 t1
theorem V_iastZ {a N : Nat} {b : Bool} {f : Nat → Value} {i : Int32} {x : Int32} (hd : decode M.2.1 pc = .ok (.iastore, 1)) (hw : w a = some (.inl (.int, b, N, f))) (hout : ¬ vp_in i N) (kk : ∀ tx : String, tx = (toString "Index " ++ toString i ++ toString " out of bounds for length " ++ toString N : String) → Vn l M S pc ls st "java/lang/ArrayIndexOutOfBoundsException" tx w k n) : V l M S pc ls (.int x :: .int i :: .ref a :: st) w k n := by
  intro p e s m args below meth c H locs lsA D ad0 ad A cells slots hC hN hL hk hn
  obtain ⟨cell, q1, q2, q3, q4, q5, q6, q7⟩ := (hN.1.1 _ _ hw).1
  intro T hT X
  obtain ⟨t, t1, q⟩ := kk _ rfl p e s m args below meth c H locs lsA D ad0 ad A cells slots hC hN hL hk hn T hT X
  refine ⟨t, ?_, q⟩
  have h1 := X.iastoreOut hC.1 (by rw [hT]; exact q1) q2 (j := i) (by rw [q5]; exact Classical.byContradiction hout) (g := F0 m pc lsA (.int x :: .int i :: .ref (ad a) :: st.map (xv ad))) rfl (rest := st.map (xv ad)) rfl (by rw [hC.2.1]; exact hd) t
  rw [q5] at h1
  exact h1 t1
theorem V_baldZ {a N : Nat} {b : Bool} {f : Nat → Value} {i : Int32} (hd : decode M.2.1 pc = .ok (.baload, 1)) (hw : w a = some (.inl (.byte, b, N, f))) (hout : ¬ vp_in i N) (kk : ∀ tx : String, tx = (toString "Index " ++ toString i ++ toString " out of bounds for length " ++ toString N : String) → Vn l M S pc ls st "java/lang/ArrayIndexOutOfBoundsException" tx w k n) : V l M S pc ls (.int i :: .ref a :: st) w k n := by
  intro p e s m args below meth c H locs lsA D ad0 ad A cells slots hC hN hL hk hn
  obtain ⟨cell, q1, q2, q3, q4, q5, q6, q7⟩ := (hN.1.1 _ _ hw).1
  intro T hT X
  obtain ⟨t, t1, q⟩ := kk _ rfl p e s m args below meth c H locs lsA D ad0 ad A cells slots hC hN hL hk hn T hT X
  refine ⟨t, ?_, q⟩
  have h1 := X.baloadOut hC.1 (by rw [hT]; exact q1) q2 (j := i) (by rw [q5]; exact Classical.byContradiction hout) (g := F0 m pc lsA (.int i :: .ref (ad a) :: st.map (xv ad))) rfl (rest := st.map (xv ad)) rfl (by rw [hC.2.1]; exact hd) t
  rw [q5] at h1
  exact h1 t1
theorem V_bastZ {a N : Nat} {b : Bool} {f : Nat → Value} {i : Int32} {x : Int32} (hd : decode M.2.1 pc = .ok (.bastore, 1)) (hw : w a = some (.inl (.byte, b, N, f))) (hout : ¬ vp_in i N) (kk : ∀ tx : String, tx = (toString "Index " ++ toString i ++ toString " out of bounds for length " ++ toString N : String) → Vn l M S pc ls st "java/lang/ArrayIndexOutOfBoundsException" tx w k n) : V l M S pc ls (.int x :: .int i :: .ref a :: st) w k n := by
  intro p e s m args below meth c H locs lsA D ad0 ad A cells slots hC hN hL hk hn
  obtain ⟨cell, q1, q2, q3, q4, q5, q6, q7⟩ := (hN.1.1 _ _ hw).1
  intro T hT X
  obtain ⟨t, t1, q⟩ := kk _ rfl p e s m args below meth c H locs lsA D ad0 ad A cells slots hC hN hL hk hn T hT X
  refine ⟨t, ?_, q⟩
  have h1 := X.bastoreOut hC.1 (by rw [hT]; exact q1) q2 (j := i) (by rw [q5]; exact Classical.byContradiction hout) (g := F0 m pc lsA (.int x :: .int i :: .ref (ad a) :: st.map (xv ad))) rfl (rest := st.map (xv ad)) rfl (by rw [hC.2.1]; exact hd) t
  rw [q5] at h1
  exact h1 t1
theorem V_saldZ {a N : Nat} {b : Bool} {f : Nat → Value} {i : Int32} (hd : decode M.2.1 pc = .ok (.saload, 1)) (hw : w a = some (.inl (.short, b, N, f))) (hout : ¬ vp_in i N) (kk : ∀ tx : String, tx = (toString "Index " ++ toString i ++ toString " out of bounds for length " ++ toString N : String) → Vn l M S pc ls st "java/lang/ArrayIndexOutOfBoundsException" tx w k n) : V l M S pc ls (.int i :: .ref a :: st) w k n := by
  intro p e s m args below meth c H locs lsA D ad0 ad A cells slots hC hN hL hk hn
  obtain ⟨cell, q1, q2, q3, q4, q5, q6, q7⟩ := (hN.1.1 _ _ hw).1
  intro T hT X
  obtain ⟨t, t1, q⟩ := kk _ rfl p e s m args below meth c H locs lsA D ad0 ad A cells slots hC hN hL hk hn T hT X
  refine ⟨t, ?_, q⟩
  have h1 := X.saloadOut hC.1 (by rw [hT]; exact q1) q2 (j := i) (by rw [q5]; exact Classical.byContradiction hout) (g := F0 m pc lsA (.int i :: .ref (ad a) :: st.map (xv ad))) rfl (rest := st.map (xv ad)) rfl (by rw [hC.2.1]; exact hd) t
  rw [q5] at h1
  exact h1 t1
theorem V_sastZ {a N : Nat} {b : Bool} {f : Nat → Value} {i : Int32} {x : Int32} (hd : decode M.2.1 pc = .ok (.sastore, 1)) (hw : w a = some (.inl (.short, b, N, f))) (hout : ¬ vp_in i N) (kk : ∀ tx : String, tx = (toString "Index " ++ toString i ++ toString " out of bounds for length " ++ toString N : String) → Vn l M S pc ls st "java/lang/ArrayIndexOutOfBoundsException" tx w k n) : V l M S pc ls (.int x :: .int i :: .ref a :: st) w k n := by
  intro p e s m args below meth c H locs lsA D ad0 ad A cells slots hC hN hL hk hn
  obtain ⟨cell, q1, q2, q3, q4, q5, q6, q7⟩ := (hN.1.1 _ _ hw).1
  intro T hT X
  obtain ⟨t, t1, q⟩ := kk _ rfl p e s m args below meth c H locs lsA D ad0 ad A cells slots hC hN hL hk hn T hT X
  refine ⟨t, ?_, q⟩
  have h1 := X.sastoreOut hC.1 (by rw [hT]; exact q1) q2 (j := i) (by rw [q5]; exact Classical.byContradiction hout) (g := F0 m pc lsA (.int x :: .int i :: .ref (ad a) :: st.map (xv ad))) rfl (rest := st.map (xv ad)) rfl (by rw [hC.2.1]; exact hd) t
  rw [q5] at h1
  exact h1 t1
end V11
