/-! System.arraycopy out of its bounds: the machine's throw over a native's frame (vx_vmNat follows vx_vmAt of part 01) -/
set_option maxRecDepth 100000
section B6
set_option maxHeartbeats 1000000 in
theorem vx_vmNat {p : Program} {l : Launch} {e : Env} {R : Room} {s : State} {m₀ : MethodId} {args : Array Value} {below : List Frame} {meth : Method} {c : Code} {W : State} {locs : List Loc} {cells slots : Nat}
    (X : Stand p l e R s m₀ args below meth c W locs cells slots) (hexec : p.tables.exec = Jvm.exec) (htr : e.platform.stackTraces = false) {cls : String} {names : List String} {text : String}
    (hcls : Bundle.fit cls = true) (hnames : ∀ n ∈ names, Bundle.fit n = true) (hsoe : (cls == "java/lang/StackOverflowError") = false) (hoom : (cls == "java/lang/OutOfMemoryError") = false)
    (h : ∀ a ∈ Bundle.messageArmAtoms cls names, a.before args s = true)
    (hlocs : ∀ x ∈ locs, ∀ cell, s.heap[x.base]? = some cell → cell.vm.isStatics = false)
    (htext : (text == notModelled) = false) (hlimit : ¬ (stringBytes (stringToUtf16 text)).size > e.platform.arrayLengthLimit) (hheap : ¬ (stringBytes (stringToUtf16 text)).size * componentBytes .byte > e.platform.maxHeapBytes)
    {g : JFrame} (hsize : g.locals.size = c.maxLocals) {nf : NFrame} (hnf : nf.words = 0)
    (hRframes : names.length + 5 < R.frames) (hRlocals : 2 * g.monitorRoom + (g.stack.map fun v => v.category).sum + 10240 ≤ R.locals) (hshort : 13 * names.length + 55 ≤ 10240)
    (hRcells : cells + 3 ≤ R.cells) (hRslots : slots + ((stringBytes (stringToUtf16 text)).size + 4 + 6) ≤ R.slots) (hlocks : meth.locks = false) :
    ∃ (S : State) (q : Addr) (ce : Cell), Steps p.tables e below (W.setFrames (.throwNew cls (some text) none :: .native nf :: .java g :: below)) (S.setFrames (.throwing q :: .native nf :: .java g :: below)) ∧
      Stand p l e R s m₀ args below meth c S locs (cells + 3) (slots + ((stringBytes (stringToUtf16 text)).size + 4 + 6)) ∧ S.heap[q]? = some ce ∧ s.vm.findClass cls = some ce.cls ∧ ce.vm = .none := by
  have howns : e.platform.frameOwnsMonitors = true := by rw [X.admits.platform]
  have hfin : e.platform.finalization = false := by rw [X.admits.platform]
  have hpl : e.platform.magicAccessors = ({} : Platform).magicAccessors := by rw [X.admits.platform]
  have a : ∀ x, x ∈ Bundle.messageArmAtoms cls names → x.holds args s none s [] = true := fun x hx => h x hx
  obtain ⟨T, Z0, L, -, Y⟩ := ThrowableC.of_atoms (args := args) howns hfin hpl (fun x hx => h x (by simp [Bundle.messageArmAtoms, hx]))
  obtain ⟨Z, M, LZ, LM, hnZ⟩ := Init0T.ofS_atoms (args := args) hpl L Y (fun x hx => h x (by simp [Bundle.messageArmAtoms, hx]))
  obtain ⟨P1, Ps, hlen, L1, hL, hP1m, hlink1, hlink⟩ := Bundle.chainS (args := args) hpl hnZ names cls hcls hnames (fun x hx => h x (by simp [Bundle.messageArmAtoms, hx]))
  obtain ⟨Zs, LZs, hn4, hfitv, hfitc⟩ := StringT.of_atoms (args := args) (fun x hx => h x (by simp [Bundle.messageArmAtoms, hx]))
  have hfound : s.vm.findClass cls = some P1.m.cls := findClass_of_methodNamed hP1m
  obtain ⟨c1, kX, hc1, hk, hord, -, -, hn6⟩ := Cond.instantiable_spec (a (.instantiable cls 6) (by simp [Bundle.messageArmAtoms]))
  cases Option.some.inj (hc1.symm.trans hfound)
  have hinit := Cond.initialized_spec hfound hk (a (.initialized cls) (by simp [Bundle.messageArmAtoms]))
  have hctor : kX.findMethod "<init>" "(Ljava/lang/String;)V" = some P1.m.idx := findMethod_of_methodNamed hP1m hk
  have hsel0 : selectMethod e.platform s.vm P1.m.cls T.fill0 = .method T.fill0 := by
    obtain ⟨c2, r2, m2, q1, q2, q3, q4, -⟩ := Cond.selects_spec (a (.selects cls Bundle.tFill0 Bundle.tFill0) (by simp [Bundle.messageArmAtoms]))
    cases Option.some.inj (q1.symm.trans hfound)
    cases Option.some.inj (q2.symm.trans (State.methodFound?_of_named Y.fill0 (by decide)))
    cases Option.some.inj (q3.symm.trans Y.fill0)
    rw [Launch.admits_selectMethod X.admits]; exact q4
  have hselF : selectMethod e.platform s.vm P1.m.cls T.fill = .method T.fill := by
    obtain ⟨c2, r2, m2, q1, q2, q3, q4, -⟩ := Cond.selects_spec (a (.selects cls Bundle.tFill Bundle.tFill) (by simp [Bundle.messageArmAtoms]))
    cases Option.some.inj (q1.symm.trans hfound)
    cases Option.some.inj (q2.symm.trans (State.methodFound?_of_named Y.fill (by decide)))
    cases Option.some.inj (q3.symm.trans Y.fill)
    rw [Launch.admits_selectMethod X.admits]; exact q4
  obtain ⟨cellS0, hcS0, hiss⟩ := Y.statics
  obtain ⟨u0, hu0⟩ := Cond.staticRefV Y.unassigned L.unassignedStatic L.statics hcS0 hiss (a (.isRef (.static Bundle.tN "UNASSIGNED_STACK" Bundle.steD)) (by simp [Bundle.messageArmAtoms]))
  obtain ⟨sen, hsen⟩ := Cond.staticRefV Y.sentinel L.sentinelStatic L.statics hcS0 hiss (a (.isRef (.static Bundle.tN "SUPPRESSED_SENTINEL" Bundle.listD)) (by simp [Bundle.messageArmAtoms]))
  obtain ⟨ci198, i198, fB, hk198, hg198, ha198, hsB, -, hnB, htB, hffB⟩ := Cond.ownField (t := .object "java/lang/Object") Y.found L.cls (by decide +kernel) (a (.fieldLink Bundle.tN 198 Bundle.tN "backtrace" "Ljava/lang/Object;") (by simp [Bundle.messageArmAtoms])) (a (.lays Bundle.tN Bundle.tN "backtrace" "Ljava/lang/Object;") (by simp [Bundle.messageArmAtoms])) e.platform hpl
  obtain ⟨cellS, hcS', heS, -, hkeep⟩ := X.same.2.2.2.2.2 T.aS cellS0 hcS0
  have hcellS : W.heap[T.aS]? = some cellS := hcS'
  have hout' : ∀ i, (⟨T.aS, i⟩ : Loc) ∉ locs := fun i hmem => by
    have := hlocs _ hmem cellS0 hcS0
    rw [hiss] at this; cases this
  have hknownS : cellS.vm ≠ .unknown := by
    rw [heS]; intro hu
    rw [show cellS0.vm = .unknown from hu] at hiss
    cases hiss
  have hvU : cellS.slots[T.fUnassigned.slot]? = some u0.v := by rw [hkeep _ (hout' _)]; exact hu0
  have hvSen : cellS.slots[T.fSentinel.slot]? = some sen.v := by rw [hkeep _ (hout' _)]; exact hsen
  obtain ⟨iM, hffM⟩ := Y.msg
  obtain ⟨tyC, dC, hdC, hdnC⟩ := Cond.laysAt hfound hk Y.cause (a (.lays cls Bundle.tN "cause" "Ljava/lang/Throwable;") (by simp [Bundle.messageArmAtoms]))
  obtain ⟨tyS, dS, hdS, hdnS⟩ := Cond.laysAt hfound hk Y.stack (a (.lays cls Bundle.tN "stackTrace" Bundle.steD) (by simp [Bundle.messageArmAtoms]))
  obtain ⟨tyP, dP, hdP, hdnP⟩ := Cond.laysAt hfound hk Y.supp (a (.lays cls Bundle.tN "suppressedExceptions" Bundle.listD) (by simp [Bundle.messageArmAtoms]))
  obtain ⟨tyM, dM, hdM, hdnM⟩ := Cond.laysAt hfound hk hffM (a (.lays cls Bundle.tN "detailMessage" "Ljava/lang/String;") (by simp [Bundle.messageArmAtoms]))
  obtain ⟨tyB, dB, hdB, hdnB⟩ := Cond.laysAt hfound hk hffB (a (.lays cls Bundle.tN "backtrace" "Ljava/lang/Object;") (by simp [Bundle.messageArmAtoms]))
  have bC := Cond.laysApart hdB hdC hdnB hdnC (by rw [hnB, Y.causeName]; decide)
  have bS := Cond.laysApart hdB hdS hdnB hdnS (by rw [hnB, Y.stackName]; decide)
  have bP := Cond.laysApart hdB hdP hdnB hdnP (by rw [hnB, Y.suppName]; decide)
  have hbk : ((preparedCellV T.toThrowableT (freshCell P1.m.cls kX) (W.heap.size + 2) u0 sen).withEntry W.cur).slots[fB.slot]? = some .null := by
    have := fresh_default (c := P1.m.cls) tyB
    rw [htB] at this
    simpa [preparedCellV, Cell.setSlot, Cell.withEntry, Array.getElem?_setIfInBounds, bC, bS, bP, bC.symm, bS.symm, bP.symm, defaultValue] using this
  have tkC := Takes.of_laid (v := .ref (W.heap.size + 2)) hk hord tyC (by rw [Y.causeType]; rfl)
  have tkS := Takes.of_laid (v := u0.v) hk hord tyS (by rw [Y.stackType]; exact fits_refV_array _ u0)
  have tkP := Takes.of_laid (v := sen.v) hk hord tyP (by rw [Y.suppType]; exact fits_refV_object _ sen)
  have tkM := Takes.of_laid (v := .ref (W.heap.size + 1)) hk hord tyM (by rw [Y.msgType]; rfl)
  have hskip : SkipFacts T e.platform s (fun u => u) u0 ((preparedCellV T.toThrowableT (freshCell P1.m.cls kX) (W.heap.size + 2) u0 sen).withEntry W.cur) := ⟨{ ci198 := ci198, i198 := i198, fBack := fB }, ⟨hk198, hg198, ha198, hsB⟩, hbk, fun _ _ => rfl⟩
  have hslots : slots + ((stringBytes (stringToUtf16 text)).size + Zs.kS.instanceTypes.size + kX.instanceTypes.size) ≤ R.slots := by
    rw [hn4, hn6]
    exact hRslots
  obtain ⟨vm', X5, st, -⟩ := X.nativeThrowsMessageColdBareV hexec (g := g) hsize (nf := nf) hnf T L Z LZ M LM Zs LZs P1 L1 Ps hL hlink1 hlink hsoe hoom hfound hk hinit hord hctor htext hlimit hheap (hfitv _) (hfitc _) hsel0 hselF hcellS hknownS hvU hvSen tkC tkS tkP tkM Y.objLocals hskip (fun _ _ hA hW _ hroom _ hrest => L.nativeOff p htr hA hW hroom hrest) (by omega) hRlocals (by omega) hRcells hslots
  obtain ⟨-, -, w3, w4, -, -, -⟩ := withThrown_facts e.platform W Zs text P1.m.cls kX
  have ha : (W.heap.size + 2) < ((withThrown W Zs text P1.m.cls kX).setVm vm').heap.size := by show _ < (withThrown W Zs text P1.m.cls kX).heap.size; rw [w3]; omega
  have b1 : (bytesOf Zs.cB (stringToUtf16 text)).slots.size = (stringBytes (stringToUtf16 text)).size := by
    rw [(Cell.writeAll_facts _ _).2.2]; simp [bytes0]
  have b2 : (stringAt Zs.cS Zs.kS Zs.fv Zs.fc (stringToUtf16 text) W.heap.size).slots.size = 4 := by simp [string0, Cell.setSlot, hn4]
  have b3 : (freshCell P1.m.cls kX).slots.size = 6 := by simp [hn6]
  rw [b1, b2, b3] at X5
  have e9 : slots + (stringBytes (stringToUtf16 text)).size + 4 + 6 = slots + ((stringBytes (stringToUtf16 text)).size + 4 + 6) := by omega
  rw [e9] at X5
  refine ⟨((withThrown W Zs text P1.m.cls kX).setVm vm').setCell (W.heap.size + 2) (plainBareV T.toThrowableT (freshCell P1.m.cls kX) (W.heap.size + 2) u0 sen (.ref (W.heap.size + 1))), W.heap.size + 2, _, st,
    X5.forget (fun y hy => ?_), heapAt_setCell_self _ ha, hfound, rfl⟩
  simp only [List.mem_cons, List.not_mem_nil, or_false] at hy
  have hge : s.heap.size ≤ W.heap.size := X.same.2.1
  rcases hy with rfl | rfl | rfl | rfl | rfl <;> exact Nat.le_trans hge (Nat.le_add_right _ 2)
/-- the same, from any state of a walk -/
theorem vx_vmNat2 {p : Program} {l : Launch} {e : Env} {R : Room} {s : State} {m : MethodId} {args : Array Value} {below : List Frame} {meth : Method} {c : Code} {H : Heap} {locs : List Loc} {cells slots : Nat} {T : State} (hexec : p.tables.exec = Jvm.exec) (hl : l.stackTraces = false) {cls text : String} {names : List String} {nb : Nat} {A : Nat → Prop}
    (hcls : Bundle.fit cls = true) (hnames : ∀ n ∈ names, Bundle.fit n = true) (hsoe : (cls == "java/lang/StackOverflowError") = false) (hoom : (cls == "java/lang/OutOfMemoryError") = false)
    (hat : ∀ w ∈ vx_atM cls names, w.before args s = true) (hgood : ∀ w ∈ vx_atM cls names, vx_ot w = true)
    (hU : vx_Zq Bundle.tN "UNASSIGNED_STACK" Bundle.steD A s s.heap) (hN : vx_Zq Bundle.tN "SUPPRESSED_SENTINEL" Bundle.listD A s s.heap) (hS : va_S A s.heap H locs)
    (htext : (text == notModelled) = false) (hnb : (stringBytes (stringToUtf16 text)).size ≤ nb) (hnb1 : nb ≤ 1000)
    {g : JFrame} (hsize : g.locals.size = c.maxLocals) {nf : NFrame} (hnf : nf.words = 0)
    (hRframes : names.length + 5 < R.frames) (hRlocals : 2 * g.monitorRoom + (g.stack.map fun v => v.category).sum + 10240 ≤ R.locals) (hshort : 13 * names.length + 55 ≤ 10240) (hRcells : cells + 3 ≤ R.cells) (hRslots : slots + (nb + 10) ≤ R.slots) (hlocks : meth.locks = false)
    (hT : T.heap = H) (X : Stand p l e R s m args below meth c T locs cells slots) :
    ∃ (S : State) (q : Addr) (ce : Cell), Steps p.tables e below (T.setFrames (.throwNew cls (some text) none :: .native nf :: .java g :: below)) (S.setFrames (.throwing q :: .native nf :: .java g :: below)) ∧ Stand p l e R s m args below meth c S locs (cells + 3) (slots + (nb + 10)) ∧
      H.size ≤ S.heap.size ∧ (∀ q : Nat, q < H.size → S.heap[q]? = H[q]?) ∧ va_S A s.heap S.heap locs ∧ S.heap[q]? = some ce ∧ s.vm.findClass cls = some ce.cls ∧ ce.vm = .none := by
  have htr : e.platform.stackTraces = false := (show e.platform.stackTraces = l.stackTraces by rw [X.admits.platform]).trans hl
  have Y := vx_rebase X (R' := { frames := R.frames, locals := R.locals, cells := 3, slots := nb + 10 }) (Nat.le_refl _) (Nat.le_refl _) hRcells hRslots
  have hhp : ((T.setVm s.vm).setFrames (.invoking m args :: below)).heap = H := hT
  have hW0 : s.WarmedH ((T.setVm s.vm).setFrames (.invoking m args :: below)).vm := State.WarmedH.refl s
  have hat' : ∀ w ∈ vx_atM cls names, w.before args ((T.setVm s.vm).setFrames (.invoking m args :: below)) = true := fun w hw => vx_ot_at hW0 rfl (hgood w hw) (hat w hw)
  have hU' : vx_Zq Bundle.tN "UNASSIGNED_STACK" Bundle.steD A ((T.setVm s.vm).setFrames (.invoking m args :: below)) ((T.setVm s.vm).setFrames (.invoking m args :: below)).heap := by rw [hhp]; exact vx_Zq.moved hW0.alike (hU.kept hS.2.1)
  have hN' : vx_Zq Bundle.tN "SUPPRESSED_SENTINEL" Bundle.listD A ((T.setVm s.vm).setFrames (.invoking m args :: below)) ((T.setVm s.vm).setFrames (.invoking m args :: below)).heap := by rw [hhp]; exact vx_Zq.moved hW0.alike (hN.kept hS.2.1)
  obtain ⟨S, q, ce, st, Z, hce, hcl', hv⟩ := vx_vmNat Y hexec htr (cls := cls) (names := names) (text := text) hcls hnames hsoe hoom (vx_own hat' (vx_isRefq hU'.1) (vx_isRefq hN'.1) hU'.2.word hN'.2.word) (fun x hx => nomatch hx) htext
    (by rw [Launch.admits_arrayLengthLimit X.admits]; omega) (by rw [Launch.admits_maxHeapBytes X.admits]; simp only [componentBytes]; omega)
    (g := g) hsize (nf := nf) hnf hRframes hRlocals hshort (by show 0 + 3 ≤ 3; omega) (by show 0 + (_ + 4 + 6) ≤ nb + 10; omega) hlocks
  obtain ⟨f1, f2⟩ := vx_frame Z.same
  have f1' : H.size ≤ S.heap.size := by rw [← hT]; exact f1
  have f2' : ∀ q : Nat, q < H.size → S.heap[q]? = H[q]? := fun q hq => by
    rw [← hT]
    exact f2 q (by rw [← hT] at hq; exact hq) (fun z hz => nomatch hz)
  have X5 := vx_back9 X Y Z
  have X6 : Stand p l e R s m args below meth c S locs (cells + 3) (slots + (nb + 10)) := { X5 with same := X5.same.mono (by omega) (by omega) }
  exact ⟨S, q, ce, st, X6, f1', f2', ⟨Nat.le_trans hS.1 f1', fun q h1 h2 => (f2' q (Nat.lt_of_lt_of_le h1 hS.1)).trans (hS.2.1 q h1 h2), hS.2.2⟩, hce, hcl', hv⟩
/-- the words of a copy out of bounds -/
def cpA (t : FieldType) (n : Nat) : String := toString (Native.java_lang_System.arraycopy.kindName t) ++ toString "[" ++ toString n ++ toString "]"
def cpW (t : FieldType) (n0 n1 : Nat) (sp dp N : Int32) : String :=
  if sp < 0 then toString "source index " ++ toString sp ++ toString " out of bounds for " ++ toString (cpA t n0)
  else if dp < 0 then toString "destination index " ++ toString dp ++ toString " out of bounds for " ++ toString (cpA t n1)
  else if N < 0 then toString "length " ++ toString N ++ toString " is negative"
  else if sp.toInt + N.toInt > n0 then toString "last source index " ++ toString (sp.toInt + N.toInt) ++ toString " out of bounds for " ++ toString (cpA t n0)
  else toString "last destination index " ++ toString (dp.toInt + N.toInt) ++ toString " out of bounds for " ++ toString (cpA t n1)
theorem cpA_len {t : FieldType} {n : Nat} (ht : (Native.java_lang_System.arraycopy.kindName t).toList.length ≤ 12) (hn : n < 10 ^ 10) : (cpA t n).toList.length ≤ 24 := by
  have a1 := nat_print hn
  have e1 : (toString "[").toList.length = 1 := by decide
  have e2 : (toString "]").toList.length = 1 := by decide
  show (Native.java_lang_System.arraycopy.kindName t ++ toString "[" ++ toString n ++ toString "]").toList.length ≤ 24
  simp only [String.toList_append, List.length_append]
  omega
theorem int_print {i : Int} (h0 : 0 ≤ i) (h : i < 10 ^ 10) : (toString i).toList.length ≤ 10 := by
  obtain ⟨m, rfl⟩ := Int.eq_ofNat_of_zero_le h0
  exact nat_print (n := m) (by omega)
theorem nn_int {x : Int32} (h : ¬ x < 0) : 0 ≤ x.toInt ∧ x.toInt < 2 ^ 31 := by
  have := Int32.not_lt.mp h
  exact ⟨by simpa using Int32.le_iff_toInt_le.mp this, Int32.toInt_lt x⟩
theorem cpW_len {t : FieldType} {n0 n1 : Nat} {sp dp N : Int32} (ht : (Native.java_lang_System.arraycopy.kindName t).toList.length ≤ 12) (h0 : n0 < 10 ^ 10) (h1 : n1 < 10 ^ 10) : (cpW t n0 n1 sp dp N).toList.length ≤ 80 := by
  have l0 := cpA_len ht h0
  have l1 := cpA_len ht h1
  have k1 : (toString "source index ").toList.length = 13 := by decide
  have k2 : (toString " out of bounds for ").toList.length = 19 := by decide
  have k3 : (toString "destination index ").toList.length = 18 := by decide
  have k4 : (toString "length ").toList.length = 7 := by decide
  have k5 : (toString " is negative").toList.length = 12 := by decide
  have k6 : (toString "last source index ").toList.length = 18 := by decide
  have k7 : (toString "last destination index ").toList.length = 23 := by decide
  have p1 := int32_print sp
  have p2 := int32_print dp
  have p3 := int32_print N
  unfold cpW
  by_cases c1 : sp < 0
  · rw [if_pos c1]
    show (toString "source index " ++ toString sp ++ toString " out of bounds for " ++ cpA t n0).toList.length ≤ 80
    simp only [String.toList_append, List.length_append]
    omega
  · rw [if_neg c1]
    by_cases c2 : dp < 0
    · rw [if_pos c2]
      show (toString "destination index " ++ toString dp ++ toString " out of bounds for " ++ cpA t n1).toList.length ≤ 80
      simp only [String.toList_append, List.length_append]
      omega
    · rw [if_neg c2]
      by_cases c3 : N < 0
      · rw [if_pos c3]
        simp only [String.toList_append, List.length_append]
        omega
      · rw [if_neg c3]
        have q1 := nn_int c1
        have q2 := nn_int c2
        have q3 := nn_int c3
        have r1 := int_print (i := sp.toInt + N.toInt) (by omega) (by omega)
        have r2 := int_print (i := dp.toInt + N.toInt) (by omega) (by omega)
        by_cases c4 : sp.toInt + N.toInt > n0
        · rw [if_pos c4]
          show (toString "last source index " ++ toString (sp.toInt + N.toInt) ++ toString " out of bounds for " ++ cpA t n0).toList.length ≤ 80
          simp only [String.toList_append, List.length_append]
          omega
        · rw [if_neg c4]
          show (toString "last destination index " ++ toString (dp.toInt + N.toInt) ++ toString " out of bounds for " ++ cpA t n1).toList.length ≤ 80
          simp only [String.toList_append, List.length_append]
          omega
theorem cpT_ok {t : FieldType} {n0 n1 : Nat} {sp dp N : Int32} (ht : (Native.java_lang_System.arraycopy.kindName t).toList.length ≤ 12) (h0 : n0 < 10 ^ 10) (h1 : n1 < 10 ^ 10) : (("arraycopy: " ++ cpW t n0 n1 sp dp N) == notModelled) = false ∧ (stringBytes (stringToUtf16 ("arraycopy: " ++ cpW t n0 n1 sp dp N))).size ≤ 400 := by
  have hl := cpW_len (sp := sp) (dp := dp) (N := N) ht h0 h1
  generalize cpW t n0 n1 sp dp N = u at hl
  refine ⟨?_, ?_⟩
  · rw [beq_eq_false_iff_ne]
    intro h
    have h2 := congrArg String.toList h
    rw [String.toList_append, show "arraycopy: ".toList = 'a' :: "rraycopy: ".toList from by decide, show notModelled.toList = '\u0000' :: " a message that is not modelled".toList from by decide] at h2
    simp at h2
  · have b1 := stringBytes_size_le (stringToUtf16 ("arraycopy: " ++ u))
    have b2 := utf16_size_le ("arraycopy: " ++ u)
    have b3 : ("arraycopy: " ++ u).toList.length ≤ 91 := by
      rw [String.toList_append, List.length_append]
      have : "arraycopy: ".toList.length = 11 := by decide
      omega
    omega
theorem W.cpOut {E : CtlPost} {e : Env} {d : Bool} {acts : List Action} {s : State} {src dst : Addr} {sp dp len : Int32} {cs cd : Cell} {ks kd : Class} {sComp dComp : ClassId} {t : FieldType}
    (hs : s.heap[src]? = some cs) (hd : s.heap[dst]? = some cd) (hsobj : ∀ k, cs.vm ≠ .statics k) (hdobj : ∀ k, cd.vm ≠ .statics k)
    (hks : s.vm.classes[cs.cls]? = some ks) (hkd : s.vm.classes[cd.cls]? = some kd) (hsk : ks.kind = .array sComp t) (hdk : kd.kind = .array dComp t)
    (hty : ((refKind t != refKind t) || (!refKind t && t != t)) = false)
    (hout : sp < 0 ∨ dp < 0 ∨ len < 0 ∨ sp.toInt + len.toInt > cs.slots.size ∨ dp.toInt + len.toInt > cd.slots.size)
    (hE : ∀ acts', E (.throwNew "java/lang/ArrayIndexOutOfBoundsException" (some ("arraycopy: " ++ cpW t cs.slots.size cd.slots.size sp dp len))) acts' s) :
    wp (Native.java_lang_System.arraycopy.sem #[.ref src, .int sp, .ref dst, .int dp, .int len]) (fun _ _ _ _ => False) E e d acts s := by
  rw [Native.java_lang_System.arraycopy.sem_refs]
  unfold Native.java_lang_System.arraycopy.behind
  simp only [wp_bind', W.classOf, W.theClass, hs, hd, hks, hkd, Option.some.injEq, exists_eq_left', hsk, hdk]
  refine ⟨hsobj, hdobj, ?_⟩
  unfold refKind at hty
  simp only [hty, Bool.false_eq_true, if_false]
  unfold cpW at hE
  by_cases c1 : sp < 0
  · rw [if_pos c1] at hE
    simp only [wp_bind', W.sizeOf, hs, hd, Option.some.injEq, exists_eq_left', c1, if_true, W.mark, W.throwNew]
    exact hE _
  · rw [if_neg c1] at hE
    by_cases c2 : dp < 0
    · rw [if_pos c2] at hE
      simp only [wp_bind', W.sizeOf, hs, hd, Option.some.injEq, exists_eq_left', c1, c2, if_false, if_true, W.mark, W.throwNew]
      exact hE _
    · rw [if_neg c2] at hE
      by_cases c3 : len < 0
      · rw [if_pos c3] at hE
        simp only [wp_bind', W.sizeOf, hs, hd, Option.some.injEq, exists_eq_left', c1, c2, c3, if_false, if_true, W.mark, W.throwNew]
        exact hE _
      · rw [if_neg c3] at hE
        by_cases c4 : sp.toInt + len.toInt > cs.slots.size
        · rw [if_pos c4] at hE
          simp only [wp_bind', W.sizeOf, hs, hd, Option.some.injEq, exists_eq_left', c1, c2, c3, c4, if_false, if_true, W.mark, W.throwNew]
          exact hE _
        · rw [if_neg c4] at hE
          have c5 : dp.toInt + len.toInt > cd.slots.size := by
            rcases hout with z | z | z | z | z
            · exact absurd z c1
            · exact absurd z c2
            · exact absurd z c3
            · exact absurd z c4
            · exact z
          simp only [wp_bind', W.sizeOf, hs, hd, Option.some.injEq, exists_eq_left', c1, c2, c3, c4, c5, if_false, if_true, W.mark, W.throwNew]
          exact hE _
end B6
section VB6
variable {l : Launch} {M : xM} {S : xS} {pc : Nat} {ls : List (Option Value)} {st : List Value} {w : xW} {k n : Nat}
theorem V_copyZ {a0 a n0 n1 index : Nat} {b0 b1 : Bool} {ty : FieldType} {f g : Nat → Value} {sp dp N : Int32} {k' n' : Nat} (hl : l.stackTraces = false) (hty : ((refKind ty != refKind ty) || (!refKind ty && ty != ty)) = false) (hkn : (Native.java_lang_System.arraycopy.kindName ty).toList.length ≤ 12) (hd : decode M.2.1 pc = .ok (.invokestatic index, 3)) (hlk : Cond.methodLink M.1 index arraycopyName ∈ lw_all) (hnat : Cond.native arraycopyName ∈ lw_all) (hstat : Cond.static arraycopyName ∈ lw_all) (hini : Cond.initialized "java/lang/System" ∈ lw_all)
    (hw0 : w a0 = some (.inl (ty, b0, n0, f))) (hw : w a = some (.inl (ty, b1, n1, g))) (hn0 : n0 < 10 ^ 10) (hn1 : n1 < 10 ^ 10) (hout : sp < 0 ∨ dp < 0 ∨ N < 0 ∨ sp.toInt + N.toInt > n0 ∨ dp.toInt + N.toInt > n1)
    (hR : 20 ≤ S.1.frames ∧ 10248 ≤ S.1.locals) (hcat : (st.map fun v => v.category).sum ≤ 8) (hw9 : w 1536 = none) (hF : S.2.1 1536) (hcell : ∀ n c, w n = some c → xnr 1536 c) (hls : ∀ v, some v ∈ ls → v ≠ .ref 1536) (hst : ∀ v ∈ st, v ≠ .ref 1536) (hk9 : 3 + k' ≤ k ∧ 410 + n' ≤ n)
    (kk : Vx l M S pc ls st "java/lang/ArrayIndexOutOfBoundsException" 1536 w k' n') : V l M S pc ls (.int N :: .int dp :: .ref a :: .int sp :: .ref a0 :: st) w k n := by
  intro p e s m args below meth c H locs lsA D ad0 ad A cells slots hC hN hL hk hn
  have hts := hC.2.2.2.2.2.2.1
  have hE := hC.2.2.2.2.2.2.2.2.2.2.2.1
  have hz := hC.2.2.2.2.2.2.2.2.2.2.2.2.1
  obtain ⟨c0, p1, p2, p3, p4, p5, p6, p7⟩ := (hN.1.1 _ _ hw0).1
  obtain ⟨c1, q1, q2, q3, q4, q5, q6, q7⟩ := (hN.1.1 _ _ hw).1
  obtain ⟨p2a, k0, hk0, cm0, hkk0⟩ := id p2
  obtain ⟨q2a, k1, hk1, cm1, hkk1⟩ := id q2
  have hsl : lsA.size = c.maxLocals := by rw [hC.2.2.1]; exact hL.1
  have hcat2 : ((st.map (xv ad)).map fun v => v.category).sum ≤ 8 := by
    rw [List.map_map, show ((fun v : Value => v.category) ∘ xv ad) = fun v => v.category from funext fun v => xv_cat ad v]
    exact hcat
  intro T hT X
  obtain ⟨r, kS, methS, hnS, hmS, hkS, N9⟩ := NativeOf.of_static (hts _ hnat) (hts _ hstat) (ps := [.object "java/lang/Object", .int, .object "java/lang/Object", .int, .int]) (ret := none) (by decide +kernel)
  have hinitS : kS.init = .initialized := Cond.initialized_spec (findClass_of_methodNamed hnS) hkS (hts _ hini)
  obtain ⟨vm', X', step⟩ := X.invokestatic hC.1 hC.2.2.2.2.2.1 (hts _ hlk) hnS hmS N9.static hkS hinitS (by decide) (g := F0 m pc lsA ((Value.int N :: .int dp :: .ref a :: .int sp :: .ref a0 :: st).map (xv ad))) rfl (argsL := [.ref (ad a0), .int sp, .ref (ad a), .int dp, .int N]) (rest := st.map (xv ad)) (by rw [N9.sig]; rfl) rfl (by rw [hC.2.1]; exact hd)
  have hA' : s.vm.Alike vm' := X'.warmed.alike
  obtain ⟨kS', N'⟩ := N9.alike hA'
  obtain ⟨k0', hk0', he0⟩ := hA'.2.2 _ _ hk0
  obtain ⟨k1', hk1', he1⟩ := hA'.2.2 _ _ hk1
  have hok := cpT_ok (sp := sp) (dp := dp) (N := N) hkn hn0 hn1
  have hseen : seenByNative methS #[.ref (ad a0), .int sp, .ref (ad a), .int dp, .int N] = #[.ref (ad a0), .int sp, .ref (ad a), .int dp, .int N] := by
    simp [seenByNative, N9.static, N9.sig, narrow]
  obtain ⟨S9, q9, ce, stt, X6, f1, f2, f3, hce, hcl', hv⟩ := vx_vmNat2 (A := A) (names := ["java/lang/IndexOutOfBoundsException", "java/lang/RuntimeException", "java/lang/Exception"]) (nb := 400) (cls := "java/lang/ArrayIndexOutOfBoundsException") (text := "arraycopy: " ++ cpW ty n0 n1 sp dp N) hC.1 hl (by decide +kernel) (by decide +kernel) (by decide +kernel) (by decide +kernel) (hat_of hat_AIOOBE args s hts hE) hgd_AIOOBE hz.2.2.2.1 hz.2.2.2.2.1 hN.2.1 hok.1 hok.2 (by decide)
    (g := F0 m pc lsA (st.map (xv ad))) hsl (nf := { method := r, args := #[.ref (ad a0), .int sp, .ref (ad a), .int dp, .int N], locked := none }) rfl (Nat.lt_of_lt_of_le (by decide) hR.1) (by show 2 * 0 + ((st.map (xv ad)).map fun v => v.category).sum + 10240 ≤ S.1.locals; have := hR.2; omega) (by decide) (by omega) (by omega) hC.2.2.2.2.1 (show (T.setVm vm').heap = H from hT) X'
  have hN' := hN.name hw9 hF hcell q9 f2 f3
  have hfin := kk p e s m args below meth c S9.heap locs lsA D ad0 _ A (cells + 3) (slots + (400 + 10)) ce hC hN' (xl_has hL (xl_up hls)) (by omega) (by omega) (by show S9.heap[if (1536 : Nat) = 1536 then q9 else ad 1536]? = _; rw [if_pos rfl]; exact hce) hv hcl'
  rw [xst_up hst] at hfin
  rw [if_pos rfl] at hfin
  obtain ⟨t, t1, tq⟩ := hfin S9 rfl X6
  refine ⟨t, step t (fun acts => ?_), tq⟩
  obtain ⟨g₀, hfr⟩ := X'.frames_eq
  obtain ⟨g₁, hfr6⟩ := X6.frames_eq
  have hUU : ∀ nf : NFrame, ((T.setVm vm').setTop (F0 m pc lsA (st.map (xv ad)))).pushFrame (.native nf) = (T.setVm vm').setFrames (.native nf :: .java (F0 m pc lsA (st.map (xv ad))) :: below) := fun nf => by
    rw [State.pushFrame, State.frames_setTop _ hfr, State.setTop_of_frames _ hfr, State.setFrames_setFrames]
  have hcurT : (T.setVm vm').cur < (T.setVm vm').threads.size := State.cur_lt_of_frames hfr
  refine Steps.nativeThrowsNote (g := F0 m pc lsA (st.map (xv ad))) (row := arraycopyRow) (cls := "java/lang/ArrayIndexOutOfBoundsException") (msg := some ("arraycopy: " ++ cpW ty n0 n1 sp dp N)) (T := fun u => u) X'.here acts N'.cls N'.meth N'.boot N'.native N'.noCode N'.noLock
    (by rw [N'.className, N'.name, N'.desc]; exact arraycopy_row p) (by rw [N'.className, N'.name]; exact X'.notFull (g := F0 m pc lsA (st.map (xv ad))) hsl (vars := nativeFrameWords "java/lang/System" "arraycopy" 5) (Nat.le_trans (by decide) hR.1) (by show 2 * 0 + ((st.map (xv ad)).map fun v => v.category).sum + (nativeFrameWords "java/lang/System" "arraycopy" 5 + 11) ≤ S.1.locals; have := hR.2; have e9 : nativeFrameWords "java/lang/System" "arraycopy" 5 ≤ 100 := (by decide +kernel); omega)) ?_ ?_
  · intro E hE9
    rw [hUU] at hE9 ⊢
    rw [hseen] at hE9 ⊢
    rw [arraycopyRow_sem]
    exact W.cpOut (cs := c0) (cd := c1) (ks := k0') (kd := k1') (sComp := cm0) (dComp := cm1) (t := ty) (by show T.heap[ad a0]? = _; rw [hT]; exact p1) (by show T.heap[ad a]? = _; rw [hT]; exact q1) p2a q2a hk0' hk1' (by rw [he0]; exact hkk0) (by rw [he1]; exact hkk1) hty (by rw [p5, q5]; exact hout) (fun acts' => by rw [p5, q5]; exact hE9 acts')
  · show Steps p.tables e below ((((T.setVm vm').setTop (F0 m pc lsA (st.map (xv ad)))).pushFrame (.native _)).pushFrame _) t
    rw [hUU, hseen, State.pushFrame, State.frames_setFrames _ hcurT, State.setFrames_setFrames]
    refine stt.trans ?_
    refine Steps.throwingLeavesNative ⟨X6.here.running, X6.here.runnable, X6.here.alone⟩ (State.cur_lt_of_frames hfr6) ⟨[.java (F0 m pc lsA (st.map (xv ad)))], rfl⟩ rfl rfl ?_
    have hV : (S9.setTop (F0 m pc lsA (st.map (xv ad)))).pushFrame (.throwing q9) = S9.setFrames (.throwing q9 :: .java (F0 m pc lsA (st.map (xv ad))) :: below) := by
      rw [State.pushFrame, State.frames_setTop _ hfr6, State.setTop_of_frames _ hfr6, State.setFrames_setFrames]
    rw [← hV]
    exact t1
end VB6
