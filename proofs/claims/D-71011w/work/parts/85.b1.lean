/-! ROWS FOR WHAT THE MACHINE THROWS: the words, a failing cast, a name for a cell that an object names -/
set_option maxRecDepth 100000
theorem fmc {α : Type} {p : α → Prop} {a : α} {l : List α} (h1 : p a) (h2 : ∀ x ∈ l, p x) : ∀ x ∈ a :: l, p x := List.forall_mem_cons.mpr ⟨h1, h2⟩
theorem xNw_use {w : Cond} {A : Array Value} {U : State} (hw : w ∈ xNw) (h : va_Nw w U) : w.before A U = true := by
  have hk := (List.mem_filter.mp hw).2
  cases w <;> first | exact va_Nw.use rfl h | exact Bool.noConfusion (show false = true from hk)
theorem hat_of {L : List Cond} (h : ∀ w ∈ L, vx_no w = true → w ∈ lw_all ∨ w ∈ xNw) (args : Array Value) (s : State) (h1 : ∀ w ∈ lw_all, w.before args s = true) (hE : xEnv s) : ∀ w ∈ L.filter vx_no, w.before args s = true := by
  intro w hw
  obtain ⟨a, b⟩ := List.mem_filter.mp hw
  rcases h w a b with z | z
  · exact h1 w z
  · exact xNw_use z (hE.1 w z)

theorem hat_NASE : ∀ w ∈ Bundle.messageArmAtoms "java/lang/NegativeArraySizeException" ["java/lang/RuntimeException", "java/lang/Exception"], vx_no w = true → w ∈ lw_all ∨ w ∈ xNw := by
  refine fmc (fun _ => .inl q104) ?_
  refine fmc (fun _ => .inl q387) ?_
  refine fmc (fun _ => .inl q396) ?_
  refine fmc (fun _ => .inl q401) ?_
  refine fmc (fun _ => .inl q404) ?_
  refine fmc (fun _ => .inl q406) ?_
  refine fmc (fun _ => .inl q388) ?_
  refine fmc (fun _ => .inl q389) ?_
  refine fmc (fun _ => .inl q131) ?_
  refine fmc (fun _ => .inl q132) ?_
  refine fmc (fun _ => .inl q390) ?_
  refine fmc (fun _ => .inl q395) ?_
  refine fmc (fun _ => .inl q402) ?_
  refine fmc (fun _ => .inl q420) ?_
  refine fmc (fun _ => .inl q377) ?_
  refine fmc (fun _ => .inl q421) ?_
  refine fmc (fun _ => .inl q379) ?_
  refine fmc (fun _ => .inl q422) ?_
  refine fmc (fun _ => .inl q381) ?_
  refine fmc (fun _ => .inl q391) ?_
  refine fmc (fun h => absurd h (by decide +kernel)) ?_
  refine fmc (fun _ => .inl q393) ?_
  refine fmc (fun h => absurd h (by decide +kernel)) ?_
  refine fmc (fun _ => .inl q383) ?_
  refine fmc (fun _ => .inl q1043) ?_
  refine fmc (fun _ => .inl q1044) ?_
  refine fmc (fun _ => .inl q419) ?_
  refine fmc (fun _ => .inl q383) ?_
  refine fmc (fun _ => .inl q1034) ?_
  refine fmc (fun _ => .inl q1035) ?_
  refine fmc (fun _ => .inl q1036) ?_
  refine fmc (fun _ => .inl q1037) ?_
  refine fmc (fun _ => .inr (nw q1054 rfl)) ?_
  refine fmc (fun _ => .inl q1037) ?_
  refine fmc (fun _ => .inl q1038) ?_
  refine fmc (fun _ => .inl q1039) ?_
  refine fmc (fun _ => .inl q1040) ?_
  refine fmc (fun _ => .inr (nw q371 rfl)) ?_
  refine fmc (fun _ => .inl q1040) ?_
  refine fmc (fun _ => .inl q1041) ?_
  refine fmc (fun _ => .inl q1042) ?_
  refine fmc (fun _ => .inl q1043) ?_
  refine fmc (fun _ => .inr (nw q373 rfl)) ?_
  refine fmc (fun _ => .inl q107) ?_
  refine fmc (fun _ => .inl q1056) ?_
  refine fmc (fun _ => .inl q194) ?_
  refine fmc (fun _ => .inl q1057) ?_
  refine fmc (fun _ => .inl q1059) ?_
  refine fmc (fun _ => .inl q1058) ?_
  refine fmc (fun _ => .inl q1060) ?_
  refine fmc (fun _ => .inl q121) ?_
  refine fmc (fun _ => .inl q1033) ?_
  refine fmc (fun _ => .inr (nw q1052 rfl)) ?_
  refine fmc (fun _ => .inl q1055) ?_
  refine fmc (fun _ => .inl q400) ?_
  refine fmc (fun _ => .inl q1047) ?_
  refine fmc (fun _ => .inl q1048) ?_
  refine fmc (fun _ => .inl q1050) ?_
  refine fmc (fun _ => .inl q1046) ?_
  refine fmc (fun h => absurd h (by decide +kernel)) ?_
  refine fmc (fun h => absurd h (by decide +kernel)) ?_
  refine fmc (fun _ => .inl q386) ?_
  refine fmc (fun _ => .inl q385) ?_
  refine fmc (fun _ => .inl q1045) ?_
  exact fun _ h => nomatch h
theorem hgd_NASE : ∀ w ∈ vx_atM "java/lang/NegativeArraySizeException" ["java/lang/RuntimeException", "java/lang/Exception"], vx_ot w = true := by decide +kernel
theorem hat_CCE : ∀ w ∈ Bundle.messageArmAtoms "java/lang/ClassCastException" ["java/lang/RuntimeException", "java/lang/Exception"], vx_no w = true → w ∈ lw_all ∨ w ∈ xNw := by
  refine fmc (fun _ => .inl q104) ?_
  refine fmc (fun _ => .inl q387) ?_
  refine fmc (fun _ => .inl q396) ?_
  refine fmc (fun _ => .inl q401) ?_
  refine fmc (fun _ => .inl q404) ?_
  refine fmc (fun _ => .inl q406) ?_
  refine fmc (fun _ => .inl q388) ?_
  refine fmc (fun _ => .inl q389) ?_
  refine fmc (fun _ => .inl q131) ?_
  refine fmc (fun _ => .inl q132) ?_
  refine fmc (fun _ => .inl q390) ?_
  refine fmc (fun _ => .inl q395) ?_
  refine fmc (fun _ => .inl q402) ?_
  refine fmc (fun _ => .inl q420) ?_
  refine fmc (fun _ => .inl q377) ?_
  refine fmc (fun _ => .inl q421) ?_
  refine fmc (fun _ => .inl q379) ?_
  refine fmc (fun _ => .inl q422) ?_
  refine fmc (fun _ => .inl q381) ?_
  refine fmc (fun _ => .inl q391) ?_
  refine fmc (fun h => absurd h (by decide +kernel)) ?_
  refine fmc (fun _ => .inl q393) ?_
  refine fmc (fun h => absurd h (by decide +kernel)) ?_
  refine fmc (fun _ => .inl q383) ?_
  refine fmc (fun _ => .inl q1043) ?_
  refine fmc (fun _ => .inl q1044) ?_
  refine fmc (fun _ => .inl q419) ?_
  refine fmc (fun _ => .inl q383) ?_
  refine fmc (fun _ => .inl q1075) ?_
  refine fmc (fun _ => .inl q1076) ?_
  refine fmc (fun _ => .inl q1077) ?_
  refine fmc (fun _ => .inl q1037) ?_
  refine fmc (fun _ => .inr (nw q1054 rfl)) ?_
  refine fmc (fun _ => .inl q1037) ?_
  refine fmc (fun _ => .inl q1038) ?_
  refine fmc (fun _ => .inl q1039) ?_
  refine fmc (fun _ => .inl q1040) ?_
  refine fmc (fun _ => .inr (nw q371 rfl)) ?_
  refine fmc (fun _ => .inl q1040) ?_
  refine fmc (fun _ => .inl q1041) ?_
  refine fmc (fun _ => .inl q1042) ?_
  refine fmc (fun _ => .inl q1043) ?_
  refine fmc (fun _ => .inr (nw q373 rfl)) ?_
  refine fmc (fun _ => .inl q107) ?_
  refine fmc (fun _ => .inl q1056) ?_
  refine fmc (fun _ => .inl q194) ?_
  refine fmc (fun _ => .inl q1057) ?_
  refine fmc (fun _ => .inl q1059) ?_
  refine fmc (fun _ => .inl q1058) ?_
  refine fmc (fun _ => .inl q1060) ?_
  refine fmc (fun _ => .inl q122) ?_
  refine fmc (fun _ => .inl q1074) ?_
  refine fmc (fun _ => .inr (nw q1085 rfl)) ?_
  refine fmc (fun _ => .inl q1086) ?_
  refine fmc (fun _ => .inl q399) ?_
  refine fmc (fun _ => .inl q1080) ?_
  refine fmc (fun _ => .inl q1081) ?_
  refine fmc (fun _ => .inl q1083) ?_
  refine fmc (fun _ => .inl q1079) ?_
  refine fmc (fun h => absurd h (by decide +kernel)) ?_
  refine fmc (fun h => absurd h (by decide +kernel)) ?_
  refine fmc (fun _ => .inl q386) ?_
  refine fmc (fun _ => .inl q385) ?_
  refine fmc (fun _ => .inl q1078) ?_
  exact fun _ h => nomatch h
theorem hgd_CCE : ∀ w ∈ vx_atM "java/lang/ClassCastException" ["java/lang/RuntimeException", "java/lang/Exception"], vx_ot w = true := by decide +kernel
theorem hat_AIOOBE : ∀ w ∈ Bundle.messageArmAtoms "java/lang/ArrayIndexOutOfBoundsException" ["java/lang/IndexOutOfBoundsException", "java/lang/RuntimeException", "java/lang/Exception"], vx_no w = true → w ∈ lw_all ∨ w ∈ xNw := by
  refine fmc (fun _ => .inl q104) ?_
  refine fmc (fun _ => .inl q387) ?_
  refine fmc (fun _ => .inl q396) ?_
  refine fmc (fun _ => .inl q401) ?_
  refine fmc (fun _ => .inl q404) ?_
  refine fmc (fun _ => .inl q406) ?_
  refine fmc (fun _ => .inl q388) ?_
  refine fmc (fun _ => .inl q389) ?_
  refine fmc (fun _ => .inl q131) ?_
  refine fmc (fun _ => .inl q132) ?_
  refine fmc (fun _ => .inl q390) ?_
  refine fmc (fun _ => .inl q395) ?_
  refine fmc (fun _ => .inl q402) ?_
  refine fmc (fun _ => .inl q420) ?_
  refine fmc (fun _ => .inl q377) ?_
  refine fmc (fun _ => .inl q421) ?_
  refine fmc (fun _ => .inl q379) ?_
  refine fmc (fun _ => .inl q422) ?_
  refine fmc (fun _ => .inl q381) ?_
  refine fmc (fun _ => .inl q391) ?_
  refine fmc (fun h => absurd h (by decide +kernel)) ?_
  refine fmc (fun _ => .inl q393) ?_
  refine fmc (fun h => absurd h (by decide +kernel)) ?_
  refine fmc (fun _ => .inl q383) ?_
  refine fmc (fun _ => .inl q1043) ?_
  refine fmc (fun _ => .inl q1044) ?_
  refine fmc (fun _ => .inl q419) ?_
  refine fmc (fun _ => .inl q383) ?_
  refine fmc (fun _ => .inl q1089) ?_
  refine fmc (fun _ => .inl q1090) ?_
  refine fmc (fun _ => .inl q1091) ?_
  refine fmc (fun _ => .inl q1092) ?_
  refine fmc (fun _ => .inr (nw q1104 rfl)) ?_
  refine fmc (fun _ => .inl q1092) ?_
  refine fmc (fun _ => .inl q1093) ?_
  refine fmc (fun _ => .inl q1094) ?_
  refine fmc (fun _ => .inl q1037) ?_
  refine fmc (fun _ => .inr (nw q1054 rfl)) ?_
  refine fmc (fun _ => .inl q1037) ?_
  refine fmc (fun _ => .inl q1038) ?_
  refine fmc (fun _ => .inl q1039) ?_
  refine fmc (fun _ => .inl q1040) ?_
  refine fmc (fun _ => .inr (nw q371 rfl)) ?_
  refine fmc (fun _ => .inl q1040) ?_
  refine fmc (fun _ => .inl q1041) ?_
  refine fmc (fun _ => .inl q1042) ?_
  refine fmc (fun _ => .inl q1043) ?_
  refine fmc (fun _ => .inr (nw q373 rfl)) ?_
  refine fmc (fun _ => .inl q107) ?_
  refine fmc (fun _ => .inl q1056) ?_
  refine fmc (fun _ => .inl q194) ?_
  refine fmc (fun _ => .inl q1057) ?_
  refine fmc (fun _ => .inl q1059) ?_
  refine fmc (fun _ => .inl q1058) ?_
  refine fmc (fun _ => .inl q1060) ?_
  refine fmc (fun _ => .inl q124) ?_
  refine fmc (fun _ => .inl q1088) ?_
  refine fmc (fun _ => .inr (nw q1102 rfl)) ?_
  refine fmc (fun _ => .inl q1105) ?_
  refine fmc (fun _ => .inl q398) ?_
  refine fmc (fun _ => .inl q1097) ?_
  refine fmc (fun _ => .inl q1098) ?_
  refine fmc (fun _ => .inl q1100) ?_
  refine fmc (fun _ => .inl q1096) ?_
  refine fmc (fun h => absurd h (by decide +kernel)) ?_
  refine fmc (fun h => absurd h (by decide +kernel)) ?_
  refine fmc (fun _ => .inl q386) ?_
  refine fmc (fun _ => .inl q385) ?_
  refine fmc (fun _ => .inl q1095) ?_
  exact fun _ h => nomatch h
theorem hgd_AIOOBE : ∀ w ∈ vx_atM "java/lang/ArrayIndexOutOfBoundsException" ["java/lang/IndexOutOfBoundsException", "java/lang/RuntimeException", "java/lang/Exception"], vx_ot w = true := by decide +kernel
section VB1
variable {l : Launch} {M : xM} {S : xS} {pc : Nat} {ls : List (Option Value)} {st : List Value} {w : xW} {k n : Nat}
theorem V_thrNASE {tx : String} {k' n' : Nat} (hl : l.stackTraces = false) (ht1 : (tx == notModelled) = false) (ht2 : (stringBytes (stringToUtf16 tx)).size ≤ 300) (hR : 20 ≤ S.1.frames ∧ 10248 ≤ S.1.locals) (hcat : (st.map fun v => v.category).sum ≤ 8) (hw : w 1536 = none) (hF : S.2.1 1536) (hcell : ∀ n c, w n = some c → xnr 1536 c) (hls : ∀ v, some v ∈ ls → v ≠ .ref 1536) (hst : ∀ v ∈ st, v ≠ .ref 1536) (hk : 3 + k' ≤ k ∧ 310 + n' ≤ n) (kk : Vx l M S pc ls st "java/lang/NegativeArraySizeException" 1536 w k' n') : Vn l M S pc ls st "java/lang/NegativeArraySizeException" tx w k n :=
  V_note (names := ["java/lang/RuntimeException", "java/lang/Exception"]) (nb := 300) 1536 hl (by decide +kernel) (by decide +kernel) (by decide +kernel) (by decide +kernel) (hat_of hat_NASE) hgd_NASE ht1 ht2 (by decide) ⟨Nat.lt_of_lt_of_le (by decide) hR.1, hR.2⟩ (by decide) hcat hw hF hcell hls hst hk kk
theorem V_thrCCE {tx : String} {k' n' : Nat} (hl : l.stackTraces = false) (ht1 : (tx == notModelled) = false) (ht2 : (stringBytes (stringToUtf16 tx)).size ≤ 300) (hR : 20 ≤ S.1.frames ∧ 10248 ≤ S.1.locals) (hcat : (st.map fun v => v.category).sum ≤ 8) (hw : w 1536 = none) (hF : S.2.1 1536) (hcell : ∀ n c, w n = some c → xnr 1536 c) (hls : ∀ v, some v ∈ ls → v ≠ .ref 1536) (hst : ∀ v ∈ st, v ≠ .ref 1536) (hk : 3 + k' ≤ k ∧ 310 + n' ≤ n) (kk : Vx l M S pc ls st "java/lang/ClassCastException" 1536 w k' n') : Vn l M S pc ls st "java/lang/ClassCastException" tx w k n :=
  V_note (names := ["java/lang/RuntimeException", "java/lang/Exception"]) (nb := 300) 1536 hl (by decide +kernel) (by decide +kernel) (by decide +kernel) (by decide +kernel) (hat_of hat_CCE) hgd_CCE ht1 ht2 (by decide) ⟨Nat.lt_of_lt_of_le (by decide) hR.1, hR.2⟩ (by decide) hcat hw hF hcell hls hst hk kk
theorem V_thrAIOOBE {tx : String} {k' n' : Nat} (hl : l.stackTraces = false) (ht1 : (tx == notModelled) = false) (ht2 : (stringBytes (stringToUtf16 tx)).size ≤ 300) (hR : 20 ≤ S.1.frames ∧ 10248 ≤ S.1.locals) (hcat : (st.map fun v => v.category).sum ≤ 8) (hw : w 1536 = none) (hF : S.2.1 1536) (hcell : ∀ n c, w n = some c → xnr 1536 c) (hls : ∀ v, some v ∈ ls → v ≠ .ref 1536) (hst : ∀ v ∈ st, v ≠ .ref 1536) (hk : 3 + k' ≤ k ∧ 310 + n' ≤ n) (kk : Vx l M S pc ls st "java/lang/ArrayIndexOutOfBoundsException" 1536 w k' n') : Vn l M S pc ls st "java/lang/ArrayIndexOutOfBoundsException" tx w k n :=
  V_note (names := ["java/lang/IndexOutOfBoundsException", "java/lang/RuntimeException", "java/lang/Exception"]) (nb := 300) 1536 hl (by decide +kernel) (by decide +kernel) (by decide +kernel) (by decide +kernel) (hat_of hat_AIOOBE) hgd_AIOOBE ht1 ht2 (by decide) ⟨Nat.lt_of_lt_of_le (by decide) hR.1, hR.2⟩ (by decide) hcat hw hF hcell hls hst hk kk
end VB1
/-! a failing cast -/
theorem fc_spec {vm : Vm} {name : String} {c : ClassId} (h : vm.findClass name = some c) : ∃ k, vm.classes[c]? = some k ∧ k.name = name ∧ k.hidden = none ∧ k.loader = none := by
  obtain ⟨hlt, hp, _⟩ := Array.findIdx?_eq_some_iff_getElem.mp h
  refine ⟨vm.classes[c], by simp [hlt], ?_⟩
  simp only [Bool.and_eq_true, beq_iff_eq, Option.isNone_iff_eq_none] at hp
  exact ⟨hp.1.1.1, hp.1.1.2, hp.2⟩
def ccT (a b h : String) : String := toString "class " ++ toString (dotted a) ++ toString " cannot be cast to class " ++ toString (dotted b) ++ toString " (" ++ toString (toString (dotted a) ++ toString " and " ++ toString (dotted b) ++ toString " are in " ++ toString (h ++ " of loader " ++ "'bootstrap'")) ++ toString ")"
theorem ccT_ok : ∀ a ∈ ["[B", "[S", "[I"], ∀ b ∈ ["[B", "[S", "[I"], ∀ h ∈ ["module java.base", "unnamed module"], (ccT a b h == notModelled) = false ∧ (stringBytes (stringToUtf16 (ccT a b h))).size ≤ 300 := by decide +kernel
theorem ofP_arr : ∀ a ∈ ["[B", "[S", "[I"], ((withoutBrackets a).length == 1) = true := by decide +kernel
theorem cc_text {vm : Vm} {s t : Class} {a b : String} (hs : s.name = a ∧ s.hidden = none ∧ s.loader = none) (ht : t.name = b ∧ t.hidden = none ∧ t.loader = none) (hs2 : s.ofPrimitives = true) (ht2 : t.ofPrimitives = true) : ∃ h ∈ ["module java.base", "unnamed module"], checkcast.message vm s t = ccT a b h := by
  have e1 : s.shown = dotted a := by unfold Class.shown; rw [hs.2.1, hs.1]
  have e2 : t.shown = dotted b := by unfold Class.shown; rw [ht.2.1, ht.1]
  have m1 : vm.moduleOf s = vm.modules.find? (·.name == "java.base") := by unfold Vm.moduleOf; rw [if_pos hs2]
  have m2 : vm.moduleOf t = vm.modules.find? (·.name == "java.base") := by unfold Vm.moduleOf; rw [if_pos ht2]
  have hl : vm.loaderName s.loader = "'bootstrap'" := by rw [hs.2.2]; rfl
  have hsm : vm.sameModule s t = true := by
    unfold Vm.sameModule
    rw [m1, m2, hs.2.2, ht.2.2]
    cases vm.modules.find? (·.name == "java.base") with
    | none => rfl
    | some x => exact beq_self_eq_true _
  unfold checkcast.message Vm.homes Vm.home
  rw [if_pos hsm, e1, e2, m1, hl]
  cases hf : vm.modules.find? (·.name == "java.base") with
  | none => exact ⟨"unnamed module", by decide, rfl⟩
  | some x =>
    have hx := List.find?_some hf
    have hx2 : x.name = "java.base" := by simpa using hx
    refine ⟨"module java.base", by decide, ?_⟩
    show toString "class " ++ _ ++ _ ++ _ ++ _ ++ toString (_ ++ _ ++ _ ++ _ ++ toString (("module " ++ x.name) ++ _ ++ _)) ++ _ = _
    rw [hx2]
    rfl
theorem vq_get (fs : List Value) {i : Nat} {v : Value} (h : fs[i]? = some v) : vp_V fs i = v := by
  unfold vp_V
  rw [List.getD_eq_getElem?_getD, h]
  rfl
theorem vq_set_s (fs : List Value) {i : Nat} {v : Value} (h : i < fs.length) : vp_V (fs.set i v) i = v := vq_get _ (List.getElem?_set_self h)
theorem vq_set_n (fs : List Value) {i j : Nat} {v : Value} (h : j ≠ i) : vp_V (fs.set i v) j = vp_V fs j := by
  unfold vp_V
  rw [List.getD_eq_getElem?_getD, List.getD_eq_getElem?_getD, List.getElem?_set_ne (Ne.symm h)]
theorem vq_mem (fs : List Value) {j : Nat} (h : j < fs.length) : vp_V fs j ∈ fs := by
  rw [vq_get fs (List.getElem?_eq_getElem h)]
  exact List.getElem_mem h
theorem vq_out (fs : List Value) {j : Nat} (h : fs.length ≤ j) : vp_V fs j = .null := by
  unfold vp_V
  rw [List.getD_eq_getElem?_getD, List.getElem?_eq_none h]
  rfl
section VB2
variable {l : Launch} {M : xM} {S : xS} {pc : Nat} {ls : List (Option Value)} {st : List Value} {w : xW} {k n : Nat}
theorem arr_kind {args : Array Value} {s : State} (hts : ∀ w ∈ lw_all, w.before args s = true) {a : String} (ha : a ∈ ["[B", "[S", "[I"]) {c : ClassId} (hc : s.vm.findClass a = some c) : ∃ k, s.vm.classes[c]? = some k ∧ (k.name = a ∧ k.hidden = none ∧ k.loader = none) ∧ k.ofPrimitives = true := by
  obtain ⟨k, h1, h2, h3, h4⟩ := fc_spec hc
  refine ⟨k, h1, ⟨h2, h3, h4⟩, ?_⟩
  have key : ∀ {t : FieldType}, Cond.arrayClass t ∈ lw_all → "[" ++ t.toString = a → ∃ comp, k.kind = .array comp t := by
    intro t hq e
    obtain ⟨cB, kB, comp, g1, g2, g3⟩ := Cond.arrayClass_spec (hts _ hq)
    rw [e] at g1
    cases g1.symm.trans hc
    cases g2.symm.trans h1
    exact ⟨comp, g3⟩
  have fin : ∀ {t : FieldType}, (∃ comp, k.kind = .array comp t) → k.ofPrimitives = true := by
    intro t ⟨comp, e⟩
    unfold Class.ofPrimitives
    rw [e, h2]
    exact ofP_arr a ha
  simp only [List.mem_cons, List.not_mem_nil, or_false] at ha
  rcases ha with e | e | e
  · exact fin (key (t := .byte) q194 (by rw [e]; rfl))
  · exact fin (key (t := .short) q1064 (by rw [e]; rfl))
  · exact fin (key (t := .int) q226 (by rw [e]; rfl))
/-- a cast that fails: the machine's note, with a short text -/
theorem V_castNo {C nm : String} {index a : Nat} (hd : decode M.2.1 pc = .ok (.checkcast index, 3)) (hlk : Cond.classLink M.1 index nm ∈ lw_all) (hc : (C, nm) ∈ xNc) (hC9 : C ∈ ["[B", "[S", "[I"]) (hn9 : nm ∈ ["[B", "[S", "[I"]) (ha : xIs w a C)
    (kk : ∀ tx : String, (tx == notModelled) = false → (stringBytes (stringToUtf16 tx)).size ≤ 300 → Vn l M S pc ls (.ref a :: st) "java/lang/ClassCastException" tx w k n) : V l M S pc ls (.ref a :: st) w k n := by
  intro p e s m args below meth c H locs lsA D ad0 ad A cells slots hC hN hL hk hn
  have hE := hC.2.2.2.2.2.2.2.2.2.2.2.1
  have hts := hC.2.2.2.2.2.2.1
  have hown := hC.2.2.2.2.2.1
  obtain ⟨cell, h1, h2, h3⟩ := xIs_recv hC hN ha
  obtain ⟨c0, cT, f1, f2, f3⟩ := hE.2.1 _ hc
  cases h3.symm.trans f1
  intro T hT X
  obtain ⟨ks, hks, ks1, ks2⟩ := arr_kind hts hC9 h3
  obtain ⟨kt, hkt, kt1, kt2⟩ := arr_kind hts hn9 f2
  have hpl : e.platform.magicAccessors = ({} : Platform).magicAccessors := by rw [X.admits.platform]
  obtain ⟨c', hc', hcl⟩ := Cond.classLink_spec hown (hts _ hlk) e.platform hpl
  cases f2.symm.trans hc'
  obtain ⟨dk, _, _, kt9, hd9, _, _, _, _, hkt9, _, hopen⟩ := hcl.here
  have hcl₀ := X.warmed.classLinks hcl
  have hW' : s.WarmedH (T.vm.noted m.cls index (.cls cT)) := X.warmed.noted hd9 hopen (State.rightAt_cls hcl)
  obtain ⟨ks', hks', es⟩ := hW'.alike.2.2 _ _ hks
  obtain ⟨kt', hkt', et⟩ := hW'.alike.2.2 _ _ hkt
  have ks1' : ks'.name = C ∧ ks'.hidden = none ∧ ks'.loader = none := by rw [es]; exact ks1
  have kt1' : kt'.name = nm ∧ kt'.hidden = none ∧ kt'.loader = none := by rw [et]; exact kt1
  have ks2' : ks'.ofPrimitives = true := by rw [es]; exact ks2
  have kt2' : kt'.ofPrimitives = true := by rw [et]; exact kt2
  obtain ⟨h9, hh9, etx⟩ := cc_text (vm := T.vm.noted m.cls index (.cls cT)) ks1' kt1' ks2' kt2'
  have hok := ccT_ok C hC9 nm hn9 h9 hh9
  obtain ⟨t, t1, q⟩ := kk _ hok.1 hok.2 p e s m args below meth c H locs lsA D ad0 ad A cells slots hC hN hL hk hn (T.setVm (T.vm.noted m.cls index (.cls cT))) hT (X.noted hW')
  refine ⟨t, ?_, q⟩
  have hdg : decode c.code pc = .ok (.checkcast index, 3) := by rw [hC.2.1]; exact hd
  have hcell : T.heap[ad a]? = some cell := by rw [hT]; exact h1
  have ha1 : (T.vm.noted m.cls index (Resolved.cls cT)).assignable cell.cls cT = false := by rw [hW'.alike.assignable]; exact f3
  show Steps p.tables e below (T.setTop (F0 m pc lsA (.ref (ad a) :: st.map (xv ad)))) t
  jvm_step X.here [hC.1, hdg, checkcast.wp_cold (e := e) (s := T) (f := F0 m pc lsA (.ref (ad a) :: st.map (xv ad))) X.here.top rfl (resolveClass_links e.toSetting hcl₀) hcl₀.ready,
    checkcast.wp_ready (e := e) (s := T.setVm (T.vm.noted m.cls index (.cls cT))) (f := F0 m pc lsA (.ref (ad a) :: st.map (xv ad))) X.here.top hcl₀.ready rfl]
  refine ⟨cell, hcell, VmData.noStatics_of h2, ks', hks', kt', hkt', ?_⟩
  simp only [ha1, etx]
  exact t1
/-- an object's field that names a cell may name it by a name that is nobody's -/
theorem V_aliasO {B a b i ci : Nat} {fs : List Value} (hB : w B = some (.inr (ci, true, fs))) (hi : fs[i]? = some (.ref b)) (hw : w a = none) (hF : S.2.1 a) (hcell : ∀ n c, w n = some c → xnr a c) (hls : ∀ v, some v ∈ ls → v ≠ .ref a) (hst : ∀ v ∈ st, v ≠ .ref a)
    (kk : V l M S pc ls st (upw w B (.inr (ci, true, fs.set i (.ref a)))) k n) : V l M S pc ls st w k n := by
  intro p e s m args below meth c H locs lsA D ad0 ad A0 cells slots hC hN hL hk hn
  have hne : ∀ (n : Nat) (d : xC), w n = some d → n ≠ a := fun n d hd e => by rw [e, hw] at hd; cases hd
  have hilt : i < fs.length := (List.getElem?_eq_some_iff.mp hi).1
  have key : ∀ (n : Nat) (d : xC), upw w B (.inr (ci, true, fs.set i (.ref a))) n = some d → ∃ d', w n = some d' := by
    intro n d hd
    by_cases e : n = B
    · subst e; exact ⟨_, hB⟩
    · rw [upw_ne e] at hd; exact ⟨_, hd⟩
  have hN' : xNow S s D ad0 (fun n => if n = a then ad b else ad n) A0 (upw w B (.inr (ci, true, fs.set i (.ref a)))) H locs := by
    refine ⟨⟨fun n d hd => ?_, fun x y c1 c2 hx hy e => ?_⟩, hN.2.1, fun n hn => ?_⟩
    · obtain ⟨d', hd'⟩ := key n d hd
      have hna := hne n d' hd'
      show xat D _ s H (if n = a then ad b else ad n) d ∧ (xo d = true → A0 (if n = a then ad b else ad n))
      rw [if_neg hna]
      by_cases e : n = B
      · subst e
        rw [upw_self] at hd
        cases hd
        have h0 := hN.1.1 n _ hB
        refine ⟨?_, h0.2⟩
        obtain ⟨r, cell, h1, h2, h3, h4, h5, h6, h7⟩ := h0.1
        refine ⟨r, cell, h1, h2, h3, h4, h5, h6, fun j hj => ?_⟩
        have hc := hcell n _ hB
        rw [h7 j hj]
        show some (xv ad (vp_V fs j)) = some (xv _ (vp_V (fs.set i (.ref a)) j))
        by_cases ei : j = i
        · subst ei
          rw [show vp_V (fs.set j (.ref a)) j = .ref a from vq_set_s fs hilt, show vp_V fs j = .ref b from vq_get fs hi]
          show some (Value.ref (ad b)) = some (Value.ref (if a = a then ad b else ad a))
          rw [if_pos rfl]
        · rw [show vp_V (fs.set i (.ref a)) j = vp_V fs j from vq_set_n fs ei]
          by_cases hjl : j < fs.length
          · rw [xv_up (hc (vp_V fs j) (vq_mem fs hjl))]
          · rw [vq_out fs (Nat.not_lt.mp hjl)]
            rfl
      · rw [upw_ne e] at hd
        have h0 := hN.1.1 n _ hd
        exact ⟨h0.1.up (hcell n d hd), h0.2⟩
    · obtain ⟨x', hx'⟩ := key x c1 hx
      obtain ⟨y', hy'⟩ := key y c2 hy
      simp only [] at e
      rw [if_neg (hne x x' hx'), if_neg (hne y y' hy')] at e
      exact hN.1.2 x y x' y' hx' hy' e
    · show (if n = a then ad b else ad n) = ad0 n
      rw [if_neg (fun e => hn (by rw [e]; exact hF))]
      exact hN.2.2 n hn
  have := kk p e s m args below meth c H locs lsA D ad0 _ A0 cells slots hC hN' (xl_has hL (xl_up hls)) hk hn
  rw [xst_up hst] at this
  exact this
end VB2
