/-! THE LAYER V: a method's walk over a heap BY NAMES. What never changes in a method (program, launch, frame below, tables, classes) is hidden in V; a reference .ref n on V's stack, in its locals and cells is the NAME n; 'ad' (hidden) says where a name lies. -/
set_option maxRecDepth 100000
section V0
/-- a value by names, as the machine has it -/
def xv (ad : Nat → Nat) (v : Value) : Value := match v with
  | .ref n => .ref (ad n)
  | v => v
theorem xv_cat (ad : Nat → Nat) (v : Value) : (xv ad v).category = v.category := by cases v <;> rfl
/-- a cell: an array (type, own, length, contents), or an object (class by its place in CL, own, fields). 'own': the methods may write it, its class is known by name; a cell that isn't own is a constant -/
abbrev xC : Type := (FieldType × Bool × Nat × (Nat → Value)) ⊕ (Nat × Bool × List Value)
abbrev xW : Type := Nat → Option xC
def xo (c : xC) : Bool := match c with
  | .inl q => q.2.1
  | .inr o => o.2.1
def xat (D : va_G) (ad : Nat → Nat) (U : State) (H : Heap) (a : Nat) (c : xC) : Prop := match c with
  | .inl q => ∃ cell : Cell, H[a]? = some cell ∧ U.isArrayOf cell q.1 ∧ cell.vm ≠ .unknown ∧ cell.vm.isStatics = false ∧ cell.slots.size = q.2.2.1 ∧ (∀ j, j < q.2.2.1 → cell.slots[j]? = some (xv ad (q.2.2.2 j))) ∧ (q.2.1 = true → U.vm.findClass ("[" ++ q.1.toString) = some cell.cls ∧ cell.vm = .none)
  | .inr o => ∃ (r : vw_C) (cell : Cell), CL[o.1]? = some r ∧ H[a]? = some cell ∧ cell.cls = D.1 o.1 ∧ (0 < r.2.2 → cell.vm ≠ .unknown) ∧ cell.vm.isStatics = false ∧ (o.2.1 = true → cell.vm = .none) ∧ ∀ k, k < r.2.2 → cell.slots[D.2 o.1 k]? = some (xv ad (vp_V o.2.2 k))
theorem xat.kept {D : va_G} {ad : Nat → Nat} {U : State} {H H1 : Heap} {a : Nat} {c : xC} (h : xat D ad U H a c) (hq : H1[a]? = H[a]?) : xat D ad U H1 a c := by
  cases c with
  | inl q =>
    obtain ⟨cell, h1, h2⟩ := h
    exact ⟨cell, by rw [hq]; exact h1, h2⟩
  | inr o =>
    obtain ⟨r, cell, h0, h1, h2⟩ := h
    exact ⟨r, cell, h0, by rw [hq]; exact h1, h2⟩
theorem xat.lt {D : va_G} {ad : Nat → Nat} {U : State} {H : Heap} {a : Nat} {c : xC} (h : xat D ad U H a c) : a < H.size := by
  cases c with
  | inl q =>
    obtain ⟨cell, h1, -⟩ := h
    exact (Array.getElem?_eq_some_iff.mp h1).1
  | inr o =>
    obtain ⟨r, cell, -, h1, -⟩ := h
    exact (Array.getElem?_eq_some_iff.mp h1).1
theorem xat.moved {D : va_G} {ad : Nat → Nat} {u U : State} {H : Heap} {a : Nat} {c : xC} (hvm : u.vm.Alike U.vm) (h : xat D ad u H a c) : xat D ad U H a c := by
  cases c with
  | inl q =>
    obtain ⟨cell, h1, h2, h3, h4, h5, h6, h7⟩ := h
    exact ⟨cell, h1, State.isArrayOf_alike hvm h2, h3, h4, h5, h6, fun e => ⟨by rw [hvm.findClass]; exact (h7 e).1, (h7 e).2⟩⟩
  | inr o => exact h
/-- which addresses a method may change: its own cells', and those that it makes -/
def xA (w : xW) (ad : Nat → Nat) (sz : Nat) : Nat → Prop := fun q => (∃ (n : Nat) (c : xC), w n = some c ∧ xo c = true ∧ q = ad n) ∨ sz ≤ q
def xRep (D : va_G) (ad : Nat → Nat) (w : xW) (A : Nat → Prop) (U : State) (H : Heap) : Prop :=
  (∀ (n : Nat) (c : xC), w n = some c → xat D ad U H (ad n) c ∧ (xo c = true → A (ad n))) ∧
  ∀ (n m : Nat) (c d : xC), w n = some c → w m = some d → ad n = ad m → n = m
theorem xRep.moved {D : va_G} {ad : Nat → Nat} {w : xW} {A : Nat → Prop} {u U : State} {H : Heap} (hvm : u.vm.Alike U.vm) (h : xRep D ad w A u H) : xRep D ad w A U H :=
  ⟨fun n c hw => ⟨(h.1 n c hw).1.moved hvm, (h.1 n c hw).2⟩, h.2⟩
/-- the texts in quotes: class, place in its pool, text; string i lies at the name 910 + i, its bytes at 920 + i -/
def xSo (i : Nat) : String × Nat × String := match i with
  | 0 => ("PromiseTailor$Text", 65, ";")
  | 1 => ("PromiseTailor$Town", 13, "msa")
  | 2 => ("PromiseTailor$Town", 23, "0123456789")
  | 3 => ("PromiseTailor$Book", 9, "abcdefgh")
  | 4 => ("PromiseTailor$Book", 17, "123456789")
  | _ => ("PromiseTailor$Book", 19, "abcdefghijklmnopqrstuvwx")
/-- the static fields that hold what they hold all through a run, the statics that a throw asks for, the texts in quotes -/
def xZ (ad : Nat → Nat) (A : Nat → Prop) (U : State) (H : Heap) : Prop :=
  va_Z "PromiseTailor" "SORT" "[LPromiseTailor$Sort;" (.ref (ad 900)) A U H ∧
  va_Z "java/util/ArrayList" "DEFAULTCAPACITY_EMPTY_ELEMENTDATA" "[Ljava/lang/Object;" (.ref (ad 904)) A U H ∧
  va_Z "java/lang/String" "COMPACT_STRINGS" "Z" (.int 1) A U H ∧
  vx_Zq Bundle.tN "UNASSIGNED_STACK" Bundle.steD A U H ∧ vx_Zq Bundle.tN "SUPPRESSED_SENTINEL" Bundle.listD A U H ∧
  ∀ i, i < 6 → vk_R (xSo i).1 (xSo i).2.1 (xSo i).2.2 (ad (910 + i)) U
theorem xZ.warm {ad : Nat → Nat} {A : Nat → Prop} {u U : State} {H : Heap} (hW : u.WarmedH U.vm) (h : xZ ad A u H) : xZ ad A U H :=
  ⟨h.1.moved hW.alike, h.2.1.moved hW.alike, h.2.2.1.moved hW.alike, h.2.2.2.1.moved hW.alike, h.2.2.2.2.1.moved hW.alike, fun i hi => (h.2.2.2.2.2 i hi).warm hW⟩
theorem xZ.same {ad : Nat → Nat} {A : Nat → Prop} {u U : State} {H : Heap} (hv : U.vm = u.vm) (h : xZ ad A u H) : xZ ad A U H := by
  have e : u.vm.Alike U.vm := by rw [hv]; exact Vm.Alike.refl _
  exact ⟨h.1.moved e, h.2.1.moved e, h.2.2.1.moved e, h.2.2.2.1.moved e, h.2.2.2.2.1.moved e, fun i hi => (h.2.2.2.2.2 i hi).same hv⟩
theorem xZ.kept {ad : Nat → Nat} {A : Nat → Prop} {U : State} {H H1 : Heap} (h : xZ ad A U H) (hq : ∀ a : Nat, a < H.size → ¬ A a → H1[a]? = H[a]?) : xZ ad A U H1 :=
  ⟨h.1.kept hq, h.2.1.kept hq, h.2.2.1.kept hq, h.2.2.2.1.kept hq, h.2.2.2.2.1.kept hq, h.2.2.2.2.2⟩
theorem xZ.narrow {ad : Nat → Nat} {A B : Nat → Prop} {U : State} {H : Heap} (h : xZ ad A U H) (hAB : ∀ q, B q → A q) : xZ ad B U H :=
  ⟨h.1.narrow hAB, h.2.1.narrow hAB, h.2.2.1.narrow hAB, h.2.2.2.1.narrow hAB, h.2.2.2.2.1.narrow hAB, h.2.2.2.2.2⟩
theorem xZ.ad {ad ad' : Nat → Nat} {A : Nat → Prop} {U : State} {H : Heap} (h : xZ ad A U H) (ha : ∀ n, 900 ≤ n → n < 950 → ad' n = ad n) : xZ ad' A U H := by
  obtain ⟨a, b, c, d, e, f⟩ := h
  exact ⟨by rw [ha 900 (by decide) (by decide)]; exact a, by rw [ha 904 (by decide) (by decide)]; exact b, c, d, e, fun i hi => by rw [ha (910 + i) (by omega) (by omega)]; exact f i hi⟩
/-- words that don't ride in the lists -/
def xNw : List Cond := lw_tbl.filter fun w => match w with
  | .fieldLinkNest _ _ _ _ _ _ => true
  | .methodLinkNest _ _ _ _ => true
  | .castable _ _ => true
  | .declares _ => true
  | .privateMethod _ => true
  | _ => false
/-- pairs of classes that aren't castable -/
def xNc : List (String × String) := [("[S", "[B"), ("[I", "[B"), ("[I", "[S"), ("[B", "[S"), ("[B", "[I"), ("[S", "[I"), ("java/lang/ArrayIndexOutOfBoundsException", "java/lang/ClassCastException")]
def xEnv (U : State) : Prop := (∀ w ∈ xNw, va_Nw w U) ∧ (∀ q ∈ xNc, va_Nc q.1 q.2 U) ∧ va_AO "java/lang/Object" U ∧ va_AO "PromiseTailor$Sheet" U ∧ va_Nw (.arrayOver (.array .int)) U
theorem va_AAmoved {t : FieldType} {u U : State} (hvm : u.vm.Alike U.vm) (h : va_Nw (.arrayOver (.array t)) u) : va_Nw (.arrayOver (.array t)) U := by
  obtain ⟨comp, c, k, h1, h2, h3, h4, h5⟩ := arrayOverA_spec h
  obtain ⟨k', hk', he⟩ := hvm.2.2 _ _ h3
  have hi : (U.vm.classes.findIdx? fun (x : Class) => match x.kind with | .array component _ => component == comp | _ => false) = some c := by
    rw [hvm.findIdx?_eq _ (fun _ => rfl)]
    exact h2
  have hkind : k'.kind = .array comp (.array t) := by rw [he]; exact h4
  have f1 : U.vm.findClass (FieldType.array t).toString = some comp := by rw [hvm.findClass]; exact h1
  have f2 : U.vm.findClass ("[" ++ (FieldType.array t).toString) = some c := by rw [hvm.findClass]; exact h5
  unfold va_Nw Cond.before Cond.holds
  simp only [Cond.value]
  rw [f1, Option.bind_some]
  refine (congrArg (fun o : Option Nat => (o.bind (fun c => (U.vm.classes[c]?).map fun (k : Class) => match k.kind with | .array _ ty => decide (ty = FieldType.array t) && decide (U.vm.findClass ("[" ++ (FieldType.array t).toString) = some c) | _ => false) == some true)) hi).trans ?_
  simp [hk', hkind, f2]
theorem xEnv.warm {u U : State} (h : u.WarmedH U.vm) (hE : xEnv u) : xEnv U := by
  obtain ⟨h1, h2, h3, h4, h5⟩ := hE
  refine ⟨fun w hw => ?_, fun q hq => (h2 q hq).moved h.alike, h3.moved h.alike, h4.moved h.alike, va_AAmoved h.alike h5⟩
  have hk := (List.mem_filter.mp hw).2
  cases w <;> first | exact va_Nw.warmF h (h1 _ hw) | exact va_Nw.warmM h (h1 _ hw) | exact va_Nw.warmC h (h1 _ hw) | exact va_Nw.warmD h (h1 _ hw) | exact Cond.privateMethod_warm h (h1 _ hw) | exact Bool.noConfusion (show false = true from hk)
theorem xEnv.same {u U : State} (h : u.vm = U.vm) (hE : xEnv u) : xEnv U := by
  have e : U.vm.Alike U.vm := Vm.Alike.refl _
  have e2 : u.vm.Alike U.vm := by rw [h]; exact e
  obtain ⟨h1, h2, h3, h4, h5⟩ := hE
  refine ⟨fun w hw => ?_, fun q hq => (h2 q hq).moved e2, h3.moved e2, h4.moved e2, va_AAmoved e2 h5⟩
  have hk := (List.mem_filter.mp hw).2
  cases w <;> first | exact Bool.noConfusion (show false = true from hk) | exact va_Nw.same rfl h (h1 _ hw)
/-- the locals, as far as known, by names -/
def xl (ad : Nat → Nat) (ls : List (Option Value)) : List (Nat × Value) := (List.range ls.length).filterMap fun i => (ls[i]?.join).map fun v => (i, xv ad v)
theorem xl_mem {ad : Nat → Nat} {ls : List (Option Value)} {q : Nat × Value} : q ∈ xl ad ls ↔ ∃ v, ls[q.1]? = some (some v) ∧ q.2 = xv ad v := by
  unfold xl
  rw [List.mem_filterMap]
  constructor
  · rintro ⟨i, -, hi⟩
    cases h : ls[i]? with
    | none => rw [h] at hi; cases hi
    | some o =>
      rw [h] at hi
      cases o with
      | none => cases hi
      | some v =>
        cases hi
        exact ⟨v, h, rfl⟩
  · rintro ⟨v, h1, h2⟩
    refine ⟨q.1, List.mem_range.mpr (List.getElem?_eq_some_iff.mp h1).1, ?_⟩
    rw [h1]
    show some (q.1, xv ad v) = some q
    rw [← h2]
def xnl (ls : List (Option Value)) (i : Nat) : Bool := match i with
  | 0 => true
  | j + 1 => match ls[j]? with
    | some (some v) => v.category != 2
    | _ => true
theorem xl_set1 {ad : Nat → Nat} {ls : List (Option Value)} {i : Nat} {v : Value} (hn : xnl ls i = true) (hi : i < ls.length) : ∀ q ∈ xl ad (ls.set i (some v)), q ∈ (i, xv ad v) :: (xl ad ls).filter (fun q => !(q.1 == i) && !(q.1 + 1 == i && q.2.category == 2)) := by
  intro q hq
  obtain ⟨u, h1, h2⟩ := xl_mem.mp hq
  by_cases e : i = q.1
  · subst e
    rw [List.getElem?_set_self hi] at h1
    cases h1
    rw [← h2]
    exact List.mem_cons_self
  · rw [List.getElem?_set_ne e] at h1
    refine List.mem_cons_of_mem _ (List.mem_filter.mpr ⟨xl_mem.mpr ⟨u, h1, h2⟩, ?_⟩)
    have e1 : (q.1 == i) = false := by simp; exact fun z => e z.symm
    rw [e1]
    by_cases e2 : q.1 + 1 = i
    · subst e2
      simp only [xnl, h1] at hn
      rw [h2, xv_cat]
      simpa using hn
    · simp [e2]
theorem xl_set2 {ad : Nat → Nat} {ls : List (Option Value)} {i : Nat} {v : Value} (hn : xnl ls i = true) (hi : i + 1 < ls.length) : ∀ q ∈ xl ad ((ls.set i (some v)).set (i + 1) none), q ∈ (i, xv ad v) :: (xl ad ls).filter (fun q => !(q.1 == i) && (!(q.1 == i + 1) && !(q.1 + 1 == i && q.2.category == 2))) := by
  intro q hq
  obtain ⟨u, h1, h2⟩ := xl_mem.mp hq
  by_cases e0 : i + 1 = q.1
  · rw [← e0, List.getElem?_set_self (by rw [List.length_set]; exact hi)] at h1
    cases h1
  rw [List.getElem?_set_ne e0] at h1
  by_cases e : i = q.1
  · subst e
    rw [List.getElem?_set_self (by omega)] at h1
    cases h1
    rw [← h2]
    exact List.mem_cons_self
  · rw [List.getElem?_set_ne e] at h1
    refine List.mem_cons_of_mem _ (List.mem_filter.mpr ⟨xl_mem.mpr ⟨u, h1, h2⟩, ?_⟩)
    have e1 : (q.1 == i) = false := by simp; exact fun z => e z.symm
    have e3 : (q.1 == i + 1) = false := by simp; exact fun z => e0 z.symm
    rw [e1, e3]
    by_cases e2 : q.1 + 1 = i
    · subst e2
      simp only [xnl, h1] at hn
      rw [h2, xv_cat]
      simpa using hn
    · simp [e2]
theorem xl_has {ls' : Array Slot} {nL : Nat} {a b : List (Nat × Value)} (h : lv_has ls' nL a) (hs : ∀ q ∈ b, q ∈ a) : lv_has ls' nL b := ⟨h.1, h.2.1, fun q hq => h.2.2 q (hs q hq)⟩
/-- what a method's walk is told: its class, code, locals, answer, handlers, name -/
abbrev xM : Type := String × ByteArray × Nat × Option FieldType × List (Nat × Nat × Nat × Nat) × String
/-- what it owes: room; names it may make anew; its answer and world; what it throws (class, name), and world -/
abbrev xS : Type := Room × (Nat → Prop) × (Option Value → xW → Prop) × (String → Nat → xW → Prop)
def xPc (D : va_G) (ad : Nat → Nat) (w : xW) (as : List Value) (sz : Nat) : Array Value → State → Prop := fun v U => v = (as.map (xv ad)).toArray ∧ U.heap.size = sz ∧ xRep D ad w (xA w ad sz) U U.heap ∧ va_K D CL [] U ∧ xEnv U ∧ xZ ad (xA w ad sz) U U.heap
def xQc (D : va_G) (S : xS) (ad0 : Nat → Nat) (A : Nat → Prop) : Array Value → State → Outcome → State → Prop := fun _ st oc t => (∃ (r : Option Value) (w' : xW) (ad' : Nat → Nat), oc = .returned (r.map (xv ad')) ∧ S.2.2.1 r w' ∧ (∀ n, ¬ S.2.1 n → ad' n = ad0 n) ∧ xRep D ad' w' A t t.heap) ∧ va_F A st t
def xXC (D : va_G) (S : xS) (ad0 : Nat → Nat) (A : Nat → Prop) : String → Addr → State → State → Prop := fun E q st t => (∃ (qn : Nat) (w' : xW) (ad' : Nat → Nat), ad' qn = q ∧ S.2.2.2 E qn w' ∧ (∀ n, ¬ S.2.1 n → ad' n = ad0 n) ∧ xRep D ad' w' A t t.heap) ∧ va_F A st t
/-- A CONTRACT: called with the arguments as (by names) over the world w, the method y does what S says -/
def Cn (l : Launch) (y : MethodName) (ws : List Cond) (S : xS) (as : List Value) (w : xW) : Prop :=
  ∀ (D : va_G) (ad : Nat → Nat) (sz : Nat), vx_Met l y ws S.1 (xPc D ad w as sz) (xQc D S ad (xA w ad sz)) (xXC D S ad (xA w ad sz)) S.1.cells S.1.slots (xA w ad sz)
def xCtx (M : xM) (S : xS) (p : Program) (s : State) (m : MethodId) (args : Array Value) (meth : Method) (c : Code) (D : va_G) (ad0 : Nat → Nat) (A : Nat → Prop) : Prop :=
  p.tables.exec = Jvm.exec ∧ c.code = M.2.1 ∧ c.maxLocals = M.2.2.1 ∧ meth.sig.returnType = M.2.2.2.1 ∧ meth.locks = false ∧ s.vm.findClass M.1 = some m.cls ∧ (∀ w ∈ lw_all, w.before args s = true) ∧ c.exceptionTable.toList = tableOf M.2.2.2.2.1 ∧ meth.name = M.2.2.2.2.2 ∧
  (∀ q, s.heap.size ≤ q → A q) ∧ va_K D CL [] s ∧ xEnv s ∧ xZ ad0 A s s.heap ∧ (∀ n, 900 ≤ n → n < 950 → ¬ S.2.1 n)
def xNow (S : xS) (s : State) (D : va_G) (ad0 ad : Nat → Nat) (A : Nat → Prop) (w : xW) (H : Heap) (locs : List Loc) : Prop :=
  xRep D ad w A s H ∧ va_S A s.heap H locs ∧ ∀ n, ¬ S.2.1 n → ad n = ad0 n
/-- THE WALK: at pc, with these locals, this stack, this world, and k cells, n slots still to make -/
def V (l : Launch) (M : xM) (S : xS) (pc : Nat) (ls : List (Option Value)) (st : List Value) (w : xW) (k n : Nat) : Prop :=
  ∀ (p : Program) (e : Env) (s : State) (m : MethodId) (args : Array Value) (below : List Frame) (meth : Method) (c : Code) (H : Heap) (locs : List Loc) (lsA : Array Slot) (D : va_G) (ad0 ad : Nat → Nat) (A : Nat → Prop) (cells slots : Nat),
    xCtx M S p s m args meth c D ad0 A → xNow S s D ad0 ad A w H locs → lv_has lsA M.2.2.1 (xl ad ls) → cells + k ≤ S.1.cells → slots + n ≤ S.1.slots →
    W p l e S.1 s m args below meth c H locs cells slots (vx_MQ below (xQc D S ad0 A) (xXC D S ad0 A) args s S.1.cells S.1.slots A) (F0 m pc lsA (st.map (xv ad)))
/-- the same, with the cell named qn, of class E, thrown over the frame -/
def Vx (l : Launch) (M : xM) (S : xS) (pc : Nat) (ls : List (Option Value)) (st : List Value) (E : String) (qn : Nat) (w : xW) (k n : Nat) : Prop :=
  ∀ (p : Program) (e : Env) (s : State) (m : MethodId) (args : Array Value) (below : List Frame) (meth : Method) (c : Code) (H : Heap) (locs : List Loc) (lsA : Array Slot) (D : va_G) (ad0 ad : Nat → Nat) (A : Nat → Prop) (cells slots : Nat) (ce : Cell),
    xCtx M S p s m args meth c D ad0 A → xNow S s D ad0 ad A w H locs → lv_has lsA M.2.2.1 (xl ad ls) → cells + k ≤ S.1.cells → slots + n ≤ S.1.slots →
    H[ad qn]? = some ce → ce.vm = .none → s.vm.findClass E = some ce.cls →
    vx_W p l e S.1 s m args below meth c H locs cells slots (vx_MQ below (xQc D S ad0 A) (xXC D S ad0 A) args s S.1.cells S.1.slots A) (F0 m pc lsA (st.map (xv ad))) (ad qn)
end V0
