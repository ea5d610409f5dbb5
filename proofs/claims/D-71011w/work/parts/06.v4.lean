/-! V: fields, arrays, new cells -/
section V3
def xup (f : Nat → Value) (j : Nat) (v : Value) : Nat → Value := fun i => if i = j then v else f i
def upw (w : xW) (a : Nat) (c : xC) : xW := fun n => if n = a then some c else w n
theorem upw_self {w : xW} {a : Nat} {c : xC} : upw w a c a = some c := if_pos rfl
theorem upw_ne {w : xW} {a n : Nat} {c : xC} (h : n ≠ a) : upw w a c n = w n := if_neg h
/-- a class, its place in CL, its fields -/
def xCls (ci : Nat) (C : String) (T : u_T) (ty : Nat → FieldType) (N : Nat) : Prop := CL[ci]? = some (C, T, N) ∧ (∀ w ∈ u_ws C T N, w ∈ lw_all) ∧ (∀ k, k < N → parseFieldDescriptor (T k).2.2.1 = some (ty k)) ∧ ∀ a, a < N → ∀ b, b < N → a ≠ b → (T a).2.1 ≠ (T b).2.1
theorem xRep.set {D : va_G} {ad : Nat → Nat} {w : xW} {A : Nat → Prop} {U : State} {H H1 : Heap} {a : Nat} {c0 c : xC} (h : xRep D ad w A U H) (hw : w a = some c0) (ho : xo c = true → A (ad a)) (hc : xat D ad U H1 (ad a) c) (oq : ∀ q : Nat, q ≠ ad a → H1[q]? = H[q]?) : xRep D ad (upw w a c) A U H1 := by
  have key : ∀ (n : Nat) (d : xC), upw w a c n = some d → ∃ d', w n = some d' := by
    intro n d hd
    by_cases e : n = a
    · subst e; exact ⟨_, hw⟩
    · rw [upw_ne e] at hd; exact ⟨_, hd⟩
  refine ⟨fun n d hd => ?_, fun n m x y hx hy e => ?_⟩
  · by_cases e : n = a
    · subst e
      rw [upw_self] at hd
      cases hd
      exact ⟨hc, ho⟩
    · rw [upw_ne e] at hd
      exact ⟨(h.1 n d hd).1.kept (oq _ fun z => e (h.2 n a d c0 hd hw z)), (h.1 n d hd).2⟩
  · obtain ⟨x', hx'⟩ := key n x hx
    obtain ⟨y', hy'⟩ := key m y hy
    exact h.2 n m x' y' hx' hy' e
theorem xNow.set {S : xS} {s : State} {D : va_G} {ad0 ad : Nat → Nat} {A : Nat → Prop} {w : xW} {H H1 : Heap} {locs : List Loc} {a i : Nat} {c0 c : xC} (h : xNow S s D ad0 ad A w H locs) (hw : w a = some c0) (h0 : xo c0 = true) (hc : xat D ad s H1 (ad a) c) (z : H1.size = H.size) (oq : ∀ q : Nat, q ≠ ad a → H1[q]? = H[q]?) : xNow S s D ad0 ad A (upw w a c) H1 (locs ++ [⟨ad a, i⟩]) :=
  ⟨h.1.set hw (fun _ => (h.1.1 a c0 hw).2 h0) hc oq, h.2.1.put z oq ((h.1.1 a c0 hw).2 h0), h.2.2⟩
/-- an array's cell with one place set -/
theorem xat_store {D : va_G} {ad : Nat → Nat} {U : State} {H1 : Heap} {a N : Nat} {ty : FieldType} {b : Bool} {f : Nat → Value} {cell : Cell} {j : Nat} {v : Value} (h2 : U.isArrayOf cell ty) (h3 : cell.vm ≠ .unknown) (h4 : cell.vm.isStatics = false) (h5 : cell.slots.size = N) (h6 : ∀ j, j < N → cell.slots[j]? = some (xv ad (f j))) (h7 : b = true → U.vm.findClass ("[" ++ ty.toString) = some cell.cls ∧ cell.vm = .none)
    (hj : j < N) (e : H1[a]? = some (cell.setSlot j (xv ad v))) : xat D ad U H1 a (.inl (ty, b, N, xup f j v)) := by
  refine ⟨_, e, h2, h3, h4, by rw [k2_slotsz]; exact h5, fun i hi => ?_, h7⟩
  by_cases q : i = j
  · subst q
    rw [Cell.slots_setSlot_self _ (by omega)]
    simp [xup]
  · rw [Cell.slots_setSlot_ne _ (Ne.symm q), h6 i hi]
    simp [xup, q]
variable {l : Launch} {M : xM} {S : xS} {pc : Nat} {ls : List (Option Value)} {st : List Value} {w : xW} {k n : Nat}
theorem V_getf {C : String} {T : u_T} {ty : Nat → FieldType} {N ci i index a : Nat} {b : Bool} {fs : List Value} {v : Value} (hK : xCls ci C T ty N) (hd : decode M.2.1 pc = .ok (.getfield index, 3)) (hi : i < N) (hlk : Cond.fieldLink M.1 index (T i).1 (T i).2.1 (T i).2.2.1 ∈ lw_all) (hw : w a = some (.inr (ci, b, fs))) (hv : fs[i]? = some v)
    (kk : V l M S (pc + 3) ls (v :: st) w k n) : V l M S pc ls (.ref a :: st) w k n := by
  intro p e s m args below meth c H locs lsA D ad0 ad A cells slots hC hN hL hk hn
  have hts := hC.2.2.2.2.2.2.1
  obtain ⟨r, cell, q1, q2, q3, q4, q5, q6, q7⟩ := (hN.1.1 _ _ hw).1
  cases q1.symm.trans hK.1
  obtain ⟨hS, hfc, kC, hkC, hkind⟩ := hC.2.2.2.2.2.2.2.2.2.2.1.1 ci _ hK.1
  obtain ⟨cf, kf, fi, f, hf, hsl⟩ := hS i hi
  refine W.getf hC.1 hC.2.1 hC.2.2.2.2.2.1 (hts _ hlk) hf (u_facts hfc hkC (u_lays hts hK.2.1 hi) hf).1 q2 (q4 (Nat.zero_lt_of_lt hi)) (v := xv ad v) ?_ rfl rfl hd (kk p e s m args below meth c H locs lsA D ad0 ad A cells slots hC hN hL hk hn)
  rw [hsl, q7 i hi]
  simp [vp_V, hv]
theorem V_getfU {C : String} {T : u_T} {ty : Nat → FieldType} {N ci i index a : Nat} {b : Bool} {fs : List Value} {v : Value} {ref : String} (hK : xCls ci C T ty N) (hd : decode M.2.1 pc = .ok (.getfield index, 3)) (hi : i < N) (hlk : Cond.fieldLink M.1 index ref (T i).2.1 (T i).2.2.1 ∈ lw_all) (hsm : Cond.sameField ref (T i).1 (T i).2.1 (T i).2.2.1 ∈ lw_all) (hw : w a = some (.inr (ci, b, fs))) (hv : fs[i]? = some v)
    (kk : V l M S (pc + 3) ls (v :: st) w k n) : V l M S pc ls (.ref a :: st) w k n := by
  intro p e s m args below meth c H locs lsA D ad0 ad A cells slots hC hN hL hk hn
  have hts := hC.2.2.2.2.2.2.1
  obtain ⟨r, cell, q1, q2, q3, q4, q5, q6, q7⟩ := (hN.1.1 _ _ hw).1
  cases q1.symm.trans hK.1
  obtain ⟨hS, hfc, kC, hkC, hkind⟩ := hC.2.2.2.2.2.2.2.2.2.2.1.1 ci _ hK.1
  obtain ⟨cf, kf, fi, f, hf, hsl⟩ := hS i hi
  refine W.getf hC.1 hC.2.1 hC.2.2.2.2.2.1 (hts _ hlk) (u_same (hts _ hsm) _ hf) (u_facts hfc hkC (u_lays hts hK.2.1 hi) hf).1 q2 (q4 (Nat.zero_lt_of_lt hi)) (v := xv ad v) ?_ rfl rfl hd (kk p e s m args below meth c H locs lsA D ad0 ad A cells slots hC hN hL hk hn)
  rw [hsl, q7 i hi]
  simp [vp_V, hv]
theorem V_getfN {C : String} {T : u_T} {ty : Nat → FieldType} {N ci i index a : Nat} {b : Bool} {fs : List Value} {v : Value} {host : String} (hK : xCls ci C T ty N) (hd : decode M.2.1 pc = .ok (.getfield index, 3)) (hi : i < N) (hlk : Cond.fieldLinkNest M.1 index (T i).1 (T i).2.1 (T i).2.2.1 host ∈ xNw) (hw : w a = some (.inr (ci, b, fs))) (hv : fs[i]? = some v)
    (kk : V l M S (pc + 3) ls (v :: st) w k n) : V l M S pc ls (.ref a :: st) w k n := by
  intro p e s m args below meth c H locs lsA D ad0 ad A cells slots hC hN hL hk hn
  have hts := hC.2.2.2.2.2.2.1
  obtain ⟨r, cell, q1, q2, q3, q4, q5, q6, q7⟩ := (hN.1.1 _ _ hw).1
  cases q1.symm.trans hK.1
  obtain ⟨hS, hfc, kC, hkC, hkind⟩ := hC.2.2.2.2.2.2.2.2.2.2.1.1 ci _ hK.1
  obtain ⟨cf, kf, fi, f, hf, hsl⟩ := hS i hi
  refine va_Wgetf hC.1 hC.2.1 hC.2.2.2.2.2.1 (va_Nw.use rfl (hC.2.2.2.2.2.2.2.2.2.2.2.1.1 _ hlk)) hf (u_facts hfc hkC (u_lays hts hK.2.1 hi) hf).1 q2 (q4 (Nat.zero_lt_of_lt hi)) (v := xv ad v) ?_ rfl rfl hd (kk p e s m args below meth c H locs lsA D ad0 ad A cells slots hC hN hL hk hn)
  rw [hsl, q7 i hi]
  simp [vp_V, hv]
theorem xapart {C : String} {T : u_T} {ty : Nat → FieldType} {N ci : Nat} {s : State} {args : Array Value} {D : va_G} (hts : ∀ w ∈ lw_all, w.before args s = true) (hK : xCls ci C T ty N) (hk : va_K D CL [] s) : ∀ x y, x < N → y < N → x ≠ y → (D.2 ci) x ≠ (D.2 ci) y := by
  intro x y hx hy hne
  obtain ⟨hS, -⟩ := hk.1 ci _ hK.1
  obtain ⟨_, _, _, fa, hia, ea⟩ := hS x hx
  obtain ⟨_, _, _, fb, hib, eb⟩ := hS y hy
  rw [← ea, ← eb]
  refine u_apart (u_lays hts hK.2.1 hx) (u_lays hts hK.2.1 hy) hia hib ?_
  rw [(State.fieldFound?_type hia (hK.2.2.1 x hx)).1, (State.fieldFound?_type hib (hK.2.2.1 y hy)).1]
  exact hK.2.2.2 x hx y hy hne
/-- an object's cell with one field set -/
theorem xat_put {C : String} {T : u_T} {N ci : Nat} {D : va_G} {ad : Nat → Nat} {U : State} {H1 : Heap} {a i : Nat} {b : Bool} {fs : List Value} {cell : Cell} {v : Value} (hci : CL[ci]? = some (C, T, N)) (q3 : cell.cls = D.1 ci) (q4 : 0 < N → cell.vm ≠ .unknown) (q5 : cell.vm.isStatics = false) (q6 : b = true → cell.vm = .none) (q7 : ∀ k, k < N → cell.slots[D.2 ci k]? = some (xv ad (vp_V fs k)))
    (hap : ∀ x y, x < N → y < N → x ≠ y → (D.2 ci) x ≠ (D.2 ci) y) (hi : i < N) (hl : i < fs.length) (e : H1[a]? = some (cell.setSlot (D.2 ci i) (xv ad v))) : xat D ad U H1 a (.inr (ci, b, fs.set i v)) := by
  refine ⟨(C, T, N), _, hci, e, q3, q4, q5, q6, fun j hj => ?_⟩
  have h := t_set (V := fun k => xv ad (vp_V fs k)) q7 hap hi (xv ad v) j hj
  rw [h]
  congr 1
  rw [← vp_updV_set hl v j]
  unfold updV
  by_cases e : j = i
  · rw [if_pos e, if_pos e]
  · rw [if_neg e, if_neg e]
theorem V_putf {C : String} {T : u_T} {ty : Nat → FieldType} {N ci i index a : Nat} {fs : List Value} {v : Value} (hK : xCls ci C T ty N) (hd : decode M.2.1 pc = .ok (.putfield index, 3)) (hi : i < N) (hlk : Cond.fieldLink M.1 index (T i).1 (T i).2.1 (T i).2.2.1 ∈ lw_all) (hfin : (T i).2.2.2 = false) (hw : w a = some (.inr (ci, true, fs))) (hl : i < fs.length)
    (hnr : ∀ ad, narrow (ty i) (xv ad v) = xv ad v) (hfit : ∀ ad, fits (ty i) (xv ad v) = true) (kk : V l M S (pc + 3) ls st (upw w a (.inr (ci, true, fs.set i v))) k n) : V l M S pc ls (v :: .ref a :: st) w k n := by
  intro p e s m args below meth c H locs lsA D ad0 ad A cells slots hC hN hL hk hn
  have hts := hC.2.2.2.2.2.2.1
  obtain ⟨r, cell, q1, q2, q3, q4, q5, q6, q7⟩ := (hN.1.1 _ _ hw).1
  cases q1.symm.trans hK.1
  have hKa := hC.2.2.2.2.2.2.2.2.2.2.1
  obtain ⟨hS, hfc, kC, hkC, hkind⟩ := hKa.1 ci _ hK.1
  obtain ⟨cf, kf, fi, f, hf, hsl⟩ := hS i hi
  have hlay := hts _ (hK.2.1 _ (u_in_lay hi))
  unfold u_lay at hlay
  rw [if_neg (by rw [hfin]; decide)] at hlay
  have hst := (u_facts hfc hkC (u_lays hts hK.2.1 hi) hf).1
  have h6 := u_store hfc hkC hkind hlay hf (hK.2.2.1 i hi) (hnr ad) (hfit ad)
  refine W.putK hC.1 hC.2.1 (f := f) ⟨hC.2.2.2.2.2.1, hts _ hlk, ⟨_, _, _, hf⟩, hst⟩ (by rw [q3]; exact h6) q2 (q6 rfl) (by rw [hsl]; exact k2_hasslot (q7 i hi)) rfl rfl hd fun H' e1 e2 e3 => ?_
  rw [hsl] at e1 ⊢
  exact kk p e s m args below meth c H' _ lsA D ad0 ad A cells slots hC (hN.set hw rfl (xat_put hK.1 q3 q4 q5 q6 q7 (xapart hts hK hKa) hi hl e1) e2 e3) hL hk hn
theorem V_putF {C : String} {T : u_T} {ty : Nat → FieldType} {N ci i index a : Nat} {fs : List Value} {v : Value} (hK : xCls ci C T ty N) (hd : decode M.2.1 pc = .ok (.putfield index, 3)) (hi : i < N) (hlk : Cond.fieldLink M.1 index (T i).1 (T i).2.1 (T i).2.2.1 ∈ lw_all) (hfin : (T i).2.2.2 = true) (hinit : M.2.2.2.2.2 = "<init>") (hdecl : (T i).1 = M.1) (hw : w a = some (.inr (ci, true, fs))) (hl : i < fs.length)
    (hnr : ∀ ad, narrow (ty i) (xv ad v) = xv ad v) (hfit : ∀ ad, fits (ty i) (xv ad v) = true) (kk : V l M S (pc + 3) ls st (upw w a (.inr (ci, true, fs.set i v))) k n) : V l M S pc ls (v :: .ref a :: st) w k n := by
  intro p e s m args below meth c H locs lsA D ad0 ad A cells slots hC hN hL hk hn
  have hts := hC.2.2.2.2.2.2.1
  have hown := hC.2.2.2.2.2.1
  obtain ⟨r, cell, q1, q2, q3, q4, q5, q6, q7⟩ := (hN.1.1 _ _ hw).1
  cases q1.symm.trans hK.1
  have hKa := hC.2.2.2.2.2.2.2.2.2.2.1
  obtain ⟨hS, hfc, kC, hkC, hkind⟩ := hKa.1 ci _ hK.1
  obtain ⟨cf, kf, fi, f, hf, hsl⟩ := hS i hi
  have hlay := hts _ (hK.2.1 _ (u_in_lay hi))
  unfold u_lay at hlay
  rw [if_pos hfin] at hlay
  have hst := (u_facts hfc hkC (u_lays hts hK.2.1 hi) hf).1
  have hcf : m.cls = cf := by
    obtain ⟨_, _, c', _, _, _, -, -, hf', -, -, -, hown2, -⟩ := Cond.laysFinal_spec hlay
    have e1 : c' = cf := by have := hf.symm.trans hf'; simp at this; exact this.1.symm
    rw [hdecl] at hown2
    rw [← e1]; exact Option.some.inj (hown.symm.trans hown2)
  have h6 := u_fits hfc hkC hkind (Or.inr hlay) hf (hK.2.2.1 i hi) (hnr ad) (hfit ad)
  refine W.putFinK hC.1 hC.2.1 hown (hts _ hlk) hf hst hcf (by rw [hC.2.2.2.2.2.2.2.2.1]; exact hinit) (by rw [q3]; exact h6) q2 (q6 rfl) (by rw [hsl]; exact k2_hasslot (q7 i hi)) rfl rfl hd fun H' e1 e2 e3 => ?_
  rw [hsl] at e1 ⊢
  exact kk p e s m args below meth c H' _ lsA D ad0 ad A cells slots hC (hN.set hw rfl (xat_put hK.1 q3 q4 q5 q6 q7 (xapart hts hK hKa) hi hl e1) e2 e3) hL hk hn
theorem V_alen {a N : Nat} {ty : FieldType} {b : Bool} {f : Nat → Value} (hd : decode M.2.1 pc = .ok (.arraylength, 1)) (hw : w a = some (.inl (ty, b, N, f))) (kk : V l M S (pc + 1) ls (.int (nI N) :: st) w k n) : V l M S pc ls (.ref a :: st) w k n := by
  intro p e s m args below meth c H locs lsA D ad0 ad A cells slots hC hN hL hk hn
  obtain ⟨cell, q1, q2, q3, q4, q5, q6, q7⟩ := (hN.1.1 _ _ hw).1
  exact W.alen hC.1 hC.2.1 q1 q2 (by rw [q5]; rfl) rfl rfl hd (kk p e s m args below meth c H locs lsA D ad0 ad A cells slots hC hN hL hk hn)
theorem V_iald {a N : Nat} {b : Bool} {f : Nat → Value} {i : Int32} {x : Int32} (hd : decode M.2.1 pc = .ok (.iaload, 1)) (hw : w a = some (.inl (.int, b, N, f))) (hin : vp_in i N) (hf : f i.toNatClampNeg = .int x) (kk : V l M S (pc + 1) ls (.int x :: st) w k n) : V l M S pc ls (.int i :: .ref a :: st) w k n := by
  intro p e s m args below meth c H locs lsA D ad0 ad A cells slots hC hN hL hk hn
  obtain ⟨cell, q1, q2, q3, q4, q5, q6, q7⟩ := (hN.1.1 _ _ hw).1
  have hlt : i.toNatClampNeg < N := Nat.not_le.mp fun q => hin (Or.inr q)
  exact W.iald (v := xv ad (.int x)) hC.1 hC.2.1 q1 q2 q3 (by rw [q5]; exact hin) (by rw [q6 _ hlt]; show some (xv ad (f _)) = _; rw [hf]) rfl rfl hd (kk p e s m args below meth c H locs lsA D ad0 ad A cells slots hC hN hL hk hn)
theorem V_bald {a N : Nat} {b : Bool} {f : Nat → Value} {i : Int32} {x : Int32} (hd : decode M.2.1 pc = .ok (.baload, 1)) (hw : w a = some (.inl (.byte, b, N, f))) (hin : vp_in i N) (hf : f i.toNatClampNeg = .int x) (kk : V l M S (pc + 1) ls (.int x :: st) w k n) : V l M S pc ls (.int i :: .ref a :: st) w k n := by
  intro p e s m args below meth c H locs lsA D ad0 ad A cells slots hC hN hL hk hn
  obtain ⟨cell, q1, q2, q3, q4, q5, q6, q7⟩ := (hN.1.1 _ _ hw).1
  have hlt : i.toNatClampNeg < N := Nat.not_le.mp fun q => hin (Or.inr q)
  exact W.bald (v := xv ad (.int x)) hC.1 hC.2.1 q1 q2 q3 (by rw [q5]; exact hin) (by rw [q6 _ hlt]; show some (xv ad (f _)) = _; rw [hf]) rfl rfl hd (kk p e s m args below meth c H locs lsA D ad0 ad A cells slots hC hN hL hk hn)
theorem V_zald {a N : Nat} {b : Bool} {f : Nat → Value} {i : Int32} {x : Int32} (hd : decode M.2.1 pc = .ok (.baload, 1)) (hw : w a = some (.inl (.boolean, b, N, f))) (hin : vp_in i N) (hf : f i.toNatClampNeg = .int x) (kk : V l M S (pc + 1) ls (.int x :: st) w k n) : V l M S pc ls (.int i :: .ref a :: st) w k n := by
  intro p e s m args below meth c H locs lsA D ad0 ad A cells slots hC hN hL hk hn
  obtain ⟨cell, q1, q2, q3, q4, q5, q6, q7⟩ := (hN.1.1 _ _ hw).1
  have hlt : i.toNatClampNeg < N := Nat.not_le.mp fun q => hin (Or.inr q)
  exact W.zald (v := xv ad (.int x)) hC.1 hC.2.1 q1 q2 q3 (by rw [q5]; exact hin) (by rw [q6 _ hlt]; show some (xv ad (f _)) = _; rw [hf]) rfl rfl hd (kk p e s m args below meth c H locs lsA D ad0 ad A cells slots hC hN hL hk hn)
theorem V_sald {a N : Nat} {b : Bool} {f : Nat → Value} {i : Int32} {x : Int32} (hd : decode M.2.1 pc = .ok (.saload, 1)) (hw : w a = some (.inl (.short, b, N, f))) (hin : vp_in i N) (hf : f i.toNatClampNeg = .int x) (kk : V l M S (pc + 1) ls (.int x :: st) w k n) : V l M S pc ls (.int i :: .ref a :: st) w k n := by
  intro p e s m args below meth c H locs lsA D ad0 ad A cells slots hC hN hL hk hn
  obtain ⟨cell, q1, q2, q3, q4, q5, q6, q7⟩ := (hN.1.1 _ _ hw).1
  have hlt : i.toNatClampNeg < N := Nat.not_le.mp fun q => hin (Or.inr q)
  exact W.sald (v := xv ad (.int x)) hC.1 hC.2.1 q1 q2 q3 (by rw [q5]; exact hin) (by rw [q6 _ hlt]; show some (xv ad (f _)) = _; rw [hf]) rfl rfl hd (kk p e s m args below meth c H locs lsA D ad0 ad A cells slots hC hN hL hk hn)
theorem V_aald {a N : Nat} {b : Bool} {f : Nat → Value} {i : Int32} {v : Value} {ty : FieldType} (hd : decode M.2.1 pc = .ok (.aaload, 1)) (hty : ty.isReference = true) (hw : w a = some (.inl (ty, b, N, f))) (hin : vp_in i N) (hf : f i.toNatClampNeg = v) (kk : V l M S (pc + 1) ls (v :: st) w k n) : V l M S pc ls (.int i :: .ref a :: st) w k n := by
  intro p e s m args below meth c H locs lsA D ad0 ad A cells slots hC hN hL hk hn
  obtain ⟨cell, q1, q2, q3, q4, q5, q6, q7⟩ := (hN.1.1 _ _ hw).1
  have hlt : i.toNatClampNeg < N := Nat.not_le.mp fun q => hin (Or.inr q)
  exact W.aald (v := xv ad (v)) hC.1 hC.2.1 q1 q2 hty q3 (by rw [q5]; exact hin) (by rw [q6 _ hlt]; show some (xv ad (f _)) = _; rw [hf]) rfl rfl hd (kk p e s m args below meth c H locs lsA D ad0 ad A cells slots hC hN hL hk hn)
theorem V_iast {a N : Nat} {f : Nat → Value} {i x : Int32} (hd : decode M.2.1 pc = .ok (.iastore, 1)) (hw : w a = some (.inl (.int, true, N, f))) (hin : vp_in i N) (kk : V l M S (pc + 1) ls st (upw w a (.inl (.int, true, N, xup f i.toNatClampNeg (.int x)))) k n) : V l M S pc ls (.int x :: .int i :: .ref a :: st) w k n := by
  intro p e s m args below meth c H locs lsA D ad0 ad A cells slots hC hN hL hk hn
  obtain ⟨cell, q1, q2, q3, q4, q5, q6, q7⟩ := (hN.1.1 _ _ hw).1
  have hlt : i.toNatClampNeg < N := Nat.not_le.mp fun q => hin (Or.inr q)
  exact W.iast hC.1 hC.2.1 q1 q2 q3 (by rw [q5]; exact hin) rfl rfl hd fun H' e1 e2 e3 => kk p e s m args below meth c H' _ lsA D ad0 ad A cells slots hC (hN.set hw rfl (xat_store q2 q3 q4 q5 q6 q7 hlt e1) e2 e3) hL hk hn
theorem V_bast {a N : Nat} {f : Nat → Value} {i x : Int32} (hd : decode M.2.1 pc = .ok (.bastore, 1)) (hw : w a = some (.inl (.byte, true, N, f))) (hin : vp_in i N) (kk : V l M S (pc + 1) ls st (upw w a (.inl (.byte, true, N, xup f i.toNatClampNeg (.int (vp_nar .byte x))))) k n) : V l M S pc ls (.int x :: .int i :: .ref a :: st) w k n := by
  intro p e s m args below meth c H locs lsA D ad0 ad A cells slots hC hN hL hk hn
  obtain ⟨cell, q1, q2, q3, q4, q5, q6, q7⟩ := (hN.1.1 _ _ hw).1
  have hlt : i.toNatClampNeg < N := Nat.not_le.mp fun q => hin (Or.inr q)
  exact W.bast hC.1 hC.2.1 q1 q2 q3 (by rw [q5]; exact hin) rfl rfl hd fun H' e1 e2 e3 => kk p e s m args below meth c H' _ lsA D ad0 ad A cells slots hC (hN.set hw rfl (xat_store q2 q3 q4 q5 q6 q7 hlt e1) e2 e3) hL hk hn
theorem V_zast {a N : Nat} {f : Nat → Value} {i x : Int32} (hd : decode M.2.1 pc = .ok (.bastore, 1)) (hw : w a = some (.inl (.boolean, true, N, f))) (hin : vp_in i N) (kk : V l M S (pc + 1) ls st (upw w a (.inl (.boolean, true, N, xup f i.toNatClampNeg (.int (vp_nar .boolean x))))) k n) : V l M S pc ls (.int x :: .int i :: .ref a :: st) w k n := by
  intro p e s m args below meth c H locs lsA D ad0 ad A cells slots hC hN hL hk hn
  obtain ⟨cell, q1, q2, q3, q4, q5, q6, q7⟩ := (hN.1.1 _ _ hw).1
  have hlt : i.toNatClampNeg < N := Nat.not_le.mp fun q => hin (Or.inr q)
  exact W.zast hC.1 hC.2.1 q1 q2 q3 (by rw [q5]; exact hin) rfl rfl hd fun H' e1 e2 e3 => kk p e s m args below meth c H' _ lsA D ad0 ad A cells slots hC (hN.set hw rfl (xat_store q2 q3 q4 q5 q6 q7 hlt e1) e2 e3) hL hk hn
theorem V_sast {a N : Nat} {f : Nat → Value} {i x : Int32} (hd : decode M.2.1 pc = .ok (.sastore, 1)) (hw : w a = some (.inl (.short, true, N, f))) (hin : vp_in i N) (kk : V l M S (pc + 1) ls st (upw w a (.inl (.short, true, N, xup f i.toNatClampNeg (.int (vp_nar .short x))))) k n) : V l M S pc ls (.int x :: .int i :: .ref a :: st) w k n := by
  intro p e s m args below meth c H locs lsA D ad0 ad A cells slots hC hN hL hk hn
  obtain ⟨cell, q1, q2, q3, q4, q5, q6, q7⟩ := (hN.1.1 _ _ hw).1
  have hlt : i.toNatClampNeg < N := Nat.not_le.mp fun q => hin (Or.inr q)
  exact W.sast hC.1 hC.2.1 q1 q2 q3 (by rw [q5]; exact hin) rfl rfl hd fun H' e1 e2 e3 => kk p e s m args below meth c H' _ lsA D ad0 ad A cells slots hC (hN.set hw rfl (xat_store q2 q3 q4 q5 q6 q7 hlt e1) e2 e3) hL hk hn
/-- a cell doesn't name a -/
def xnr (a : Nat) (c : xC) : Prop := match c with
  | .inl q => ∀ j, j < q.2.2.1 → q.2.2.2 j ≠ .ref a
  | .inr o => ∀ v ∈ o.2.2, v ≠ .ref a
theorem xv_up {ad : Nat → Nat} {a h : Nat} {v : Value} (hv : v ≠ .ref a) : xv (fun n => if n = a then h else ad n) v = xv ad v := by
  cases v with
  | ref n =>
    show Value.ref (if n = a then h else ad n) = Value.ref (ad n)
    rw [if_neg (fun e => hv (by rw [e]))]
  | _ => rfl
theorem xat.up {D : va_G} {ad : Nat → Nat} {U : State} {H : Heap} {q a h : Nat} {c : xC} (hc : xat D ad U H q c) (hn : xnr a c) : xat D (fun n => if n = a then h else ad n) U H q c := by
  cases c with
  | inl x =>
    obtain ⟨cell, h1, h2, h3, h4, h5, h6, h7⟩ := hc
    exact ⟨cell, h1, h2, h3, h4, h5, fun j hj => by rw [h6 j hj, xv_up (hn j hj)], h7⟩
  | inr x =>
    obtain ⟨r, cell, h0, h1, h2, h3, h4, h5, h6⟩ := hc
    refine ⟨r, cell, h0, h1, h2, h3, h4, h5, fun j hj => ?_⟩
    rw [h6 j hj]
    congr 1
    refine (xv_up ?_).symm
    unfold vp_V
    rw [List.getD_eq_getElem?_getD]
    cases hg : x.2.2[j]? with
    | none => exact fun z => nomatch z
    | some v => exact hn v (List.mem_of_getElem? hg)
/-- a new cell, at the heap's end, by the name a -/
theorem xNow.push {M : xM} {S : xS} {p : Program} {s : State} {m : MethodId} {args : Array Value} {meth : Method} {c0 : Code} {D : va_G} {ad0 ad : Nat → Nat} {A : Nat → Prop} {w : xW} {H H1 : Heap} {locs : List Loc} {a : Nat} {c : xC} (hC : xCtx M S p s m args meth c0 D ad0 A) (h : xNow S s D ad0 ad A w H locs) (hw : w a = none) (hF : S.2.1 a) (hcell : ∀ n c, w n = some c → xnr a c)
    (z : H1.size = H.size + 1) (oq : ∀ q : Nat, q < H.size → H1[q]? = H[q]?) (hc : xat D (fun n => if n = a then H.size else ad n) s H1 H.size c) : xNow S s D ad0 (fun n => if n = a then H.size else ad n) A (upw w a c) H1 locs := by
  have hA := hC.2.2.2.2.2.2.2.2.2.1
  have hne : ∀ (n : Nat) (d : xC), w n = some d → n ≠ a := fun n d hd e => by rw [e, hw] at hd; cases hd
  refine ⟨⟨fun n d hd => ?_, fun x y c1 c2 hx hy e => ?_⟩, ⟨Nat.le_trans h.2.1.1 (by omega), fun q h1 h2 => (oq q (Nat.lt_of_lt_of_le h1 h.2.1.1)).trans (h.2.1.2.1 q h1 h2), h.2.1.2.2⟩, fun n hn => ?_⟩
  · by_cases e : n = a
    · subst e
      rw [upw_self] at hd
      cases hd
      show xat D _ s H1 (if n = n then H.size else ad n) c ∧ (xo c = true → A (if n = n then H.size else ad n))
      rw [if_pos rfl]
      exact ⟨hc, fun _ => hA _ h.2.1.1⟩
    · rw [upw_ne e] at hd
      show xat D _ s H1 (if n = a then H.size else ad n) d ∧ (xo d = true → A (if n = a then H.size else ad n))
      rw [if_neg e]
      exact ⟨((h.1.1 n d hd).1.kept (oq _ (h.1.1 n d hd).1.lt)).up (hcell n d hd), (h.1.1 n d hd).2⟩
  · simp only [] at e
    by_cases ex : x = a
    · by_cases ey : y = a
      · rw [ex, ey]
      · rw [if_pos ex, if_neg ey] at e
        rw [upw_ne ey] at hy
        have := (h.1.1 y c2 hy).1.lt
        omega
    · by_cases ey : y = a
      · rw [if_neg ex, if_pos ey] at e
        rw [upw_ne ex] at hx
        have := (h.1.1 x c1 hx).1.lt
        omega
      · rw [if_neg ex, if_neg ey] at e
        rw [upw_ne ex] at hx
        rw [upw_ne ey] at hy
        exact h.1.2 x y c1 c2 hx hy e
  · show (if n = a then H.size else ad n) = ad0 n
    rw [if_neg (fun e => hn (by rw [e]; exact hF))]
    exact h.2.2 n hn
theorem xl_up {ad : Nat → Nat} {a h : Nat} {ls : List (Option Value)} (hn : ∀ v, some v ∈ ls → v ≠ .ref a) : ∀ q ∈ xl (fun n => if n = a then h else ad n) ls, q ∈ xl ad ls := by
  intro q hq
  obtain ⟨v, h1, h2⟩ := xl_mem.mp hq
  exact xl_mem.mpr ⟨v, h1, by rw [h2, xv_up (hn v (List.mem_of_getElem? h1))]⟩
theorem xst_up {ad : Nat → Nat} {a h : Nat} {st : List Value} (hn : ∀ v ∈ st, v ≠ .ref a) : st.map (xv (fun n => if n = a then h else ad n)) = st.map (xv ad) := List.map_congr_left fun v hv => xv_up (hn v hv)
theorem xv_dflt (ad : Nat → Nat) (ty : FieldType) : xv ad (defaultValue ty) = defaultValue ty := by cases ty <;> rfl
theorem V_new {C : String} {T : u_T} {ty : Nat → FieldType} {N ci index k' n' : Nat} {fs : List Value} (a : Nat) (hK : xCls ci C T ty N) (hd : decode M.2.1 pc = .ok (.new index, 3)) (hlk : Cond.classLink M.1 index C ∈ lw_all) (hins : Cond.instantiable C N ∈ lw_all) (hini : Cond.initialized C ∈ lw_all) (hfs : ∀ j, j < N → vp_V fs j = defaultValue (ty j))
    (hw : w a = none) (hF : S.2.1 a) (hcell : ∀ n c, w n = some c → xnr a c) (hls : ∀ v, some v ∈ ls → v ≠ .ref a) (hst : ∀ v ∈ st, v ≠ .ref a) (hR : 1 + k' ≤ k ∧ N + n' ≤ n) (kk : V l M S (pc + 3) ls (.ref a :: st) (upw w a (.inr (ci, true, fs))) k' n') : V l M S pc ls st w k n := by
  intro p e s m args below meth c H locs lsA D ad0 ad A cells slots hC hN hL hk hn
  have hts := hC.2.2.2.2.2.2.1
  have hKn := hC.2.2.2.2.2.2.2.2.2.2.1.1 ci _ hK.1
  refine W.newcK hC.1 hC.2.1 hC.2.2.2.2.2.1 (hts _ hlk) (hts _ hins) (hts _ hini) rfl hd (by omega) (by omega) hKn.2.1 rfl fun H1 kC hkC e1 z1 o1 => ?_
  have hb := u_born ty hts hK.2.1 hKn hkC e1 hK.2.2.1
  obtain ⟨cell, g1, g2, g3, g4⟩ := hb
  have hN' := xNow.push (a := a) (c := .inr (ci, true, fs)) hC hN hw hF hcell z1 o1 ⟨(C, T, N), cell, hK.1, g1, g2, (fun _ => by rw [g3]; exact fun h => nomatch h), (by rw [g3]; rfl), (fun _ => g3), (fun j hj => by rw [g4 j hj]; show some (defaultValue (ty j)) = some (xv _ (vp_V fs j)); rw [hfs j hj, xv_dflt])⟩
  have := kk p e s m args below meth c H1 locs lsA D ad0 _ A (cells + 1) (slots + N) hC hN' (xl_has hL (xl_up hls)) (by omega) (by omega)
  rw [List.map_cons, xst_up hst] at this
  refine W.eq ?_ this
  show F0 m (pc + 3) lsA (_ :: _) = F0 m (pc + 3) lsA (_ :: _)
  congr 2
  show Value.ref _ = Value.ref (if a = a then H.size else ad a)
  rw [if_pos rfl]
theorem V_newa {atype : ArrayType} {ty : FieldType} {N k' n' : Nat} {i : Int32} {f : Nat → Value} (a : Nat) (hty : newarray.typeOf atype = ty) (hd : decode M.2.1 pc = .ok (.newarray atype, 2)) (hac : Cond.arrayClass ty ∈ lw_all) (hi0 : ¬ i < 0) (hiN : i.toNatClampNeg = N) (hby : N * componentBytes ty ≤ 536870912) (hf : ∀ j, j < N → f j = defaultValue ty)
    (hw : w a = none) (hF : S.2.1 a) (hcell : ∀ n c, w n = some c → xnr a c) (hls : ∀ v, some v ∈ ls → v ≠ .ref a) (hst : ∀ v ∈ st, v ≠ .ref a) (hR : 1 + k' ≤ k ∧ N + n' ≤ n) (kk : V l M S (pc + 2) ls (.ref a :: st) (upw w a (.inl (ty, true, N, f))) k' n') : V l M S pc ls (.int i :: st) w k n := by
  intro p e s m args below meth c H locs lsA D ad0 ad A cells slots hC hN hL hk hn
  subst hty
  have hts := hC.2.2.2.2.2.2.1
  refine va_newaK hC.1 hC.2.1 (hts _ hac) rfl hd (rest := st.map (xv ad)) rfl hi0 hiN hby (by omega) (by omega) rfl fun H1 cA e1 z1 o1 hAr hNm => ?_
  have hN' := xNow.push (a := a) (c := .inl (newarray.typeOf atype, true, N, f)) hC hN hw hF hcell z1 o1 ⟨_, e1, hAr _ _, (fun h => nomatch h), rfl, arrV_size _ _ _, (fun j hj => by show (arrV _ _ _).slots[j]? = some (xv _ (f j)); rw [arrV_read _ _ hj, hf j hj, xv_dflt]), (fun _ => ⟨hNm, rfl⟩)⟩
  have := kk p e s m args below meth c H1 locs lsA D ad0 _ A (cells + 1) (slots + N) hC hN' (xl_has hL (xl_up hls)) (by omega) (by omega)
  rw [List.map_cons, xst_up hst] at this
  refine W.eq ?_ this
  show F0 m (pc + 2) lsA (_ :: _) = F0 m (pc + 2) lsA (_ :: _)
  congr 2
  show Value.ref _ = Value.ref (if a = a then H.size else ad a)
  rw [if_pos rfl]
theorem V_objInit {index a : Nat} (hd : decode M.2.1 pc = .ok (.invokespecial index, 3)) (h1 : Cond.methodLink M.1 index Lib.objectInit ∈ lw_all) (h2 : Cond.instanceMethod Lib.objectInit ∈ lw_all) (h3 : Cond.code Lib.objectInit ⟨#[0xb1]⟩ 1 none ∈ lw_all) (hR : 1 ≤ S.1.frames ∧ 20 ≤ S.1.locals) (hcat : (st.map fun v => v.category).sum ≤ 8) (kk : V l M S (pc + 3) ls st w k n) : V l M S pc ls (.ref a :: st) w k n := by
  intro p e s m args below meth c H locs lsA D ad0 ad A cells slots hC hN hL hk hn
  have hts := hC.2.2.2.2.2.2.1
  have hc2 := xcat (ad := ad) (lsA := lsA) (m := m) (pc := pc) (stk := st) hcat
  refine W.objInit hC.1 hC.2.1 hC.2.2.2.2.2.1 (hts _ h1) (hts _ h2) (hts _ h3) rfl (by rw [hC.2.2.1]; exact hL.1) rfl hd hR.1 ?_ (kk p e s m args below meth c H locs lsA D ad0 ad A cells slots hC hN hL hk hn)
  have e0 : 2 * (F0 m pc lsA (List.map (xv ad) (Value.ref a :: st))).monitorRoom = 2 * (F0 m pc lsA (st.map (xv ad))).monitorRoom := rfl
  rw [e0]
  omega
end V3
