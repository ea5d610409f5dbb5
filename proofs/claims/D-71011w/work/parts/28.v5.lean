/-! MORE ROWS OF V: static fields, casts, arrays of references -/
set_option maxRecDepth 100000
/-- the cell named v is of the class C -/
def xIs (w : xW) (v : Nat) (C : String) : Prop := (∃ (ci : Nat) (b : Bool) (fs : List Value) (r : vw_C), w v = some (.inr (ci, b, fs)) ∧ CL[ci]? = some r ∧ r.1 = C) ∨ ∃ (ty : FieldType) (N : Nat) (f : Nat → Value), w v = some (.inl (ty, true, N, f)) ∧ "[" ++ ty.toString = C
section V5
variable {l : Launch} {M : xM} {S : xS} {pc : Nat} {ls : List (Option Value)} {st : List Value} {w : xW} {k n : Nat}
theorem xIs_recv {p : Program} {s : State} {m : MethodId} {args : Array Value} {meth : Method} {c : Code} {H : Heap} {locs : List Loc} {D : va_G} {ad0 ad : Nat → Nat} {A : Nat → Prop} {v : Nat} {C : String} (hC : xCtx M S p s m args meth c D ad0 A) (hN : xNow S s D ad0 ad A w H locs) (h : xIs w v C) : ∃ cell : Cell, H[ad v]? = some cell ∧ cell.vm.isStatics = false ∧ s.vm.findClass C = some cell.cls := by
  rcases h with ⟨ci, b, fs, r, h1, h2, h3⟩ | ⟨ty, N, f, h1, h2⟩
  · have := xRecv hC hN h1 h2
    rw [h3] at this
    exact this
  · obtain ⟨cell, q1, q2, q3, q4, q5, q6, q7⟩ := (hN.1.1 _ _ h1).1
    exact ⟨cell, q1, q4, by rw [← h2]; exact (q7 rfl).1⟩
theorem V_gets {C nm d : String} {v : Value} {index : Nat} (hZ : ∀ ad A U H, xZ ad A U H → va_Z C nm d (xv ad v) A U H) (hv : ∀ j, v = .ref j → 900 ≤ j ∧ j < 950) (hd : decode M.2.1 pc = .ok (.getstatic index, 3)) (hlk : Cond.fieldLink M.1 index C nm d ∈ lw_all) (kk : V l M S (pc + 3) ls (v :: st) w k n) : V l M S pc ls st w k n := by
  intro p e s m args below meth c H locs lsA D ad0 ad A cells slots hC hN hL hk hn
  obtain ⟨c1, c2, c3, c4, c5, c6, c7, c8, c9, c10, hK, hE, hz, hF⟩ := id hC
  refine va_gets (ref := C) c1 c2 (hZ ad0 A s s.heap hz) hN.2.1 c6 (c7 _ hlk) (fun _ h => h) hd ?_
  have e9 : xv ad0 v = xv ad v := by
    cases v with
    | ref j => show Value.ref (ad0 j) = Value.ref (ad j); rw [hN.2.2 j (hF j (hv j rfl).1 (hv j rfl).2)]
    | _ => rfl
  rw [e9]
  exact kk p e s m args below meth c H locs lsA D ad0 ad A cells slots hC hN hL hk hn
theorem V_getsN {C nm d host : String} {v : Value} {index : Nat} (hZ : ∀ ad A U H, xZ ad A U H → va_Z C nm d (xv ad v) A U H) (hv : ∀ j, v = .ref j → 900 ≤ j ∧ j < 950) (hd : decode M.2.1 pc = .ok (.getstatic index, 3)) (hlk : Cond.fieldLinkNest M.1 index C nm d host ∈ xNw) (kk : V l M S (pc + 3) ls (v :: st) w k n) : V l M S pc ls st w k n := by
  intro p e s m args below meth c H locs lsA D ad0 ad A cells slots hC hN hL hk hn
  obtain ⟨c1, c2, c3, c4, c5, c6, c7, c8, c9, c10, hK, hE, hz, hF⟩ := id hC
  refine va_getsN (ref := C) c1 c2 (hZ ad0 A s s.heap hz) hN.2.1 c6 (va_Nw.use rfl (hE.1 _ hlk)) (fun _ h => h) hd ?_
  have e9 : xv ad0 v = xv ad v := by
    cases v with
    | ref j => show Value.ref (ad0 j) = Value.ref (ad j); rw [hN.2.2 j (hF j (hv j rfl).1 (hv j rfl).2)]
    | _ => rfl
  rw [e9]
  exact kk p e s m args below meth c H locs lsA D ad0 ad A cells slots hC hN hL hk hn
/-- a cast to the cell's own class -/
theorem V_castE {nm : String} {index a : Nat} (hd : decode M.2.1 pc = .ok (.checkcast index, 3)) (hlk : Cond.classLink M.1 index nm ∈ lw_all) (ha : xIs w a nm) (kk : V l M S (pc + 3) ls (.ref a :: st) w k n) : V l M S pc ls (.ref a :: st) w k n := by
  intro p e s m args below meth c H locs lsA D ad0 ad A cells slots hC hN hL hk hn
  exact va_castE hC.1 hC.2.1 hC.2.2.2.2.2.1 (hC.2.2.2.2.2.2.1 _ hlk) (xIs_recv hC hN ha) hd (kk p e s m args below meth c H locs lsA D ad0 ad A cells slots hC hN hL hk hn)
theorem V_castY {C nm : String} {index a : Nat} (hd : decode M.2.1 pc = .ok (.checkcast index, 3)) (hlk : Cond.classLink M.1 index nm ∈ lw_all) (hc : Cond.castable C nm ∈ xNw) (ha : xIs w a C) (kk : V l M S (pc + 3) ls (.ref a :: st) w k n) : V l M S pc ls (.ref a :: st) w k n := by
  intro p e s m args below meth c H locs lsA D ad0 ad A cells slots hC hN hL hk hn
  have hE := hC.2.2.2.2.2.2.2.2.2.2.2.1
  exact va_castY hC.1 hC.2.1 hC.2.2.2.2.2.1 (hC.2.2.2.2.2.2.1 _ hlk) (hE.1 _ hc) (xIs_recv hC hN ha) hd (kk p e s m args below meth c H locs lsA D ad0 ad A cells slots hC hN hL hk hn)
theorem V_instE {nm : String} {index a : Nat} (hd : decode M.2.1 pc = .ok (.instanceof index, 3)) (hlk : Cond.classLink M.1 index nm ∈ lw_all) (ha : xIs w a nm) (kk : V l M S (pc + 3) ls (.int 1 :: st) w k n) : V l M S pc ls (.ref a :: st) w k n := by
  intro p e s m args below meth c H locs lsA D ad0 ad A cells slots hC hN hL hk hn
  exact va_instE hC.1 hC.2.1 hC.2.2.2.2.2.1 (hC.2.2.2.2.2.2.1 _ hlk) (xIs_recv hC hN ha) hd (kk p e s m args below meth c H locs lsA D ad0 ad A cells slots hC hN hL hk hn)
theorem V_instNo {C nm : String} {index a : Nat} (hd : decode M.2.1 pc = .ok (.instanceof index, 3)) (hlk : Cond.classLink M.1 index nm ∈ lw_all) (hc : (C, nm) ∈ xNc) (ha : xIs w a C) (kk : V l M S (pc + 3) ls (.int 0 :: st) w k n) : V l M S pc ls (.ref a :: st) w k n := by
  intro p e s m args below meth c H locs lsA D ad0 ad A cells slots hC hN hL hk hn
  have hE := hC.2.2.2.2.2.2.2.2.2.2.2.1
  exact va_instNo hC.1 hC.2.1 hC.2.2.2.2.2.1 (hC.2.2.2.2.2.2.1 _ hlk) (hE.2.1 _ hc) (xIs_recv hC hN ha) hd (kk p e s m args below meth c H locs lsA D ad0 ad A cells slots hC hN hL hk hn)
/-- null into an array of references -/
theorem V_aastN {a N : Nat} {f : Nat → Value} {i : Int32} {E : String} (hd : decode M.2.1 pc = .ok (.aastore, 1)) (hw : w a = some (.inl (.object E, true, N, f))) (hin : vp_in i N) (kk : V l M S (pc + 1) ls st (upw w a (.inl (.object E, true, N, xup f i.toNatClampNeg .null))) k n) : V l M S pc ls (.null :: .int i :: .ref a :: st) w k n := by
  intro p e s m args below meth c H locs lsA D ad0 ad A cells slots hC hN hL hk hn
  obtain ⟨cell, q1, q2, q3, q4, q5, q6, q7⟩ := (hN.1.1 _ _ hw).1
  have hlt : i.toNatClampNeg < N := Nat.not_le.mp fun q => hin (Or.inr q)
  exact va_WaastN (C := E) hC.1 hC.2.1 q1 q2 q3 (by rw [q5]; exact hin) rfl rfl hd fun H' e1 e2 e3 => kk p e s m args below meth c H' _ lsA D ad0 ad A cells slots hC (hN.set hw rfl (xat_store (v := .null) q2 q3 q4 q5 q6 q7 hlt e1) e2 e3) hL hk hn
/-- a cell into an array of references: C, the cell's class, is the array's, or is castable to it -/
theorem V_aast {a v N : Nat} {f : Nat → Value} {i : Int32} {E C : String} (hd : decode M.2.1 pc = .ok (.aastore, 1)) (hAO : ∀ U, xEnv U → va_AO E U) (hw : w a = some (.inl (.object E, true, N, f))) (hin : vp_in i N) (hv : xIs w v C) (hc : C = E ∧ Cond.castable C "java/lang/Object" ∈ xNw ∨ Cond.castable C E ∈ xNw) (hasg : C = E → ∀ U, xEnv U → ∃ c, U.vm.findClass C = some c ∧ U.vm.assignable c c = true)
    (kk : V l M S (pc + 1) ls st (upw w a (.inl (.object E, true, N, xup f i.toNatClampNeg (.ref v)))) k n) : V l M S pc ls (.ref v :: .int i :: .ref a :: st) w k n := by
  intro p e s m args below meth c H locs lsA D ad0 ad A cells slots hC hN hL hk hn
  have hE := hC.2.2.2.2.2.2.2.2.2.2.2.1
  obtain ⟨cell, q1, q2, q3, q4, q5, q6, q7⟩ := (hN.1.1 _ _ hw).1
  have hlt : i.toNatClampNeg < N := Nat.not_le.mp fun q => hin (Or.inr q)
  have h0 : ¬ i < 0 := fun q => hin (Or.inl q)
  obtain ⟨comp, cA, kA, f1, f2, f3, f4, f5⟩ := Cond.arrayOver_spec (va_AO.use (A := args) (hAO s hE))
  have hcA : cA = cell.cls := Option.some.inj (f5.symm.trans (q7 rfl).1)
  subst hcA
  obtain ⟨kE, hkE, -⟩ := Vm.findClass_spec f1
  obtain ⟨cv, v1, v2, v3⟩ := xIs_recv hC hN hv
  obtain ⟨kC, hkC, -⟩ := Vm.findClass_spec v3
  have hinst : s.vm.assignable cv.cls comp = true := by
    rcases hc with ⟨e1, -⟩ | hc
    · obtain ⟨c0, g1, g2⟩ := hasg e1 s hE
      have : c0 = cv.cls := Option.some.inj (g1.symm.trans v3)
      rw [e1] at v3
      have h2 : comp = cv.cls := Option.some.inj (f1.symm.trans v3)
      rw [h2, ← this]
      exact g2
    · obtain ⟨c0, t0, g1, g2, g3⟩ := Cond.castable_spec (va_Nw.use (A := args) rfl (hE.1 _ hc))
      have h1 : c0 = cv.cls := Option.some.inj (g1.symm.trans v3)
      have h2 : t0 = comp := Option.some.inj (g2.symm.trans f1)
      rw [← h1, ← h2]
      exact g3
  refine W.aast hC.1 hC.2.1 q1 (fun q h => by rw [h] at q4; cases q4) q3 f3 f4 rfl hkE ⟨h0, by rw [q5]; exact hlt⟩ v1 (fun q h => by rw [h] at v2; cases v2) hkC hinst rfl rfl hd fun H' e1 e2 e3 => ?_
  exact kk p e s m args below meth c H' _ lsA D ad0 ad A cells slots hC (hN.set hw rfl (xat_store (v := .ref v) q2 q3 q4 q5 q6 q7 hlt e1) e2 e3) hL hk hn
/-- a new array of references -/
theorem V_anew {C : String} {index N k' n' : Nat} {i : Int32} (a : Nat) (hd : decode M.2.1 pc = .ok (.anewarray index, 3)) (hlk : Cond.classLink M.1 index C ∈ lw_all) (hAO : ∀ U, xEnv U → va_AO C U) (hi0 : ¬ i < 0) (hiN : i.toNatClampNeg = N) (hby : N * 4 ≤ 536870912)
    (hw : w a = none) (hF : S.2.1 a) (hcell : ∀ n c, w n = some c → xnr a c) (hls : ∀ v, some v ∈ ls → v ≠ .ref a) (hst : ∀ v ∈ st, v ≠ .ref a) (hR : 1 + k' ≤ k ∧ N + n' ≤ n) (kk : V l M S (pc + 3) ls (.ref a :: st) (upw w a (.inl (.object C, true, N, fun _ => .null))) k' n') : V l M S pc ls (.int i :: st) w k n := by
  intro p e s m args below meth c H locs lsA D ad0 ad A cells slots hC hN hL hk hn
  have hE := hC.2.2.2.2.2.2.2.2.2.2.2.1
  subst hiN
  refine W.anew hC.1 hC.2.1 hC.2.2.2.2.2.1 (hC.2.2.2.2.2.2.1 _ hlk) (va_AO.use (hAO s hE)) rfl hd (rest := st.map (xv ad)) rfl hi0 hby (by omega) (by omega) fun cA kA comp f1 f2 f3 f4 => ?_
  generalize hH1 : H.push ({ cls := cA, slots := Array.replicate i.toNatClampNeg .null, vm := .none } : Cell) = H1
  have z1 : H1.size = H.size + 1 := by rw [← hH1, Array.size_push]
  have e1 : H1[H.size]? = some (arrV cA i.toNatClampNeg (fun _ => .null)) := by rw [← hH1, Array.getElem?_push_size, ← arrV_new]
  have o1 : ∀ q : Nat, q < H.size → H1[q]? = H[q]? := fun q hq => by rw [← hH1, Array.getElem?_push, if_neg (Nat.ne_of_lt hq)]
  have hN' := xNow.push (a := a) (c := .inl (.object C, true, i.toNatClampNeg, fun _ => .null)) hC hN hw hF hcell z1 o1 ⟨_, e1, ⟨(fun q h => by cases h), kA, f2, comp, f3⟩, (fun h => nomatch h), rfl, arrV_size _ _ _, (fun j hj => by show (arrV _ _ _).slots[j]? = some .null; rw [arrV_read _ _ hj]), (fun _ => ⟨f1, rfl⟩)⟩
  have := kk p e s m args below meth c H1 locs lsA D ad0 _ A (cells + 1) (slots + i.toNatClampNeg) hC hN' (xl_has hL (xl_up hls)) (by omega) (by omega)
  rw [List.map_cons, xst_up hst] at this
  refine W.eq ?_ this
  show F0 m (pc + 3) lsA (_ :: _) = F0 m (pc + 3) lsA (_ :: _)
  congr 2
  show Value.ref _ = Value.ref (if a = a then H.size else ad a)
  rw [if_pos rfl]
end V5
