/-! the model's constructor -/
set_option maxRecDepth 100000
def mIf (m j : Nat) : Value := if mlen j = 0 then .int 0 else if j < m then .ref (1001 + j) else .null
def mIs (m : Nat) : List Value := (List.range 45).map (mIf m)
/-- the model's world while it is made: its arrays before place m stand -/
def mI (m : Nat) : xW := fun n => if n = 1000 then some (.inr (12, true, mIs m)) else if 1001 ≤ n ∧ n < 1001 + m ∧ mlen (n - 1001) ≠ 0 then some (.inl (mty (n - 1001), true, mlen (n - 1001), fun _ => .int 0)) else none
def mZero : xSt := fun _ _ => 0
theorem mIs_at (m : Nat) {j : Nat} (h : j < 45) : (mIs m)[j]? = some (mIf m j) := by
  unfold mIs
  rw [List.getElem?_map, List.getElem?_range h]
  rfl
theorem mI_end : mI 45 = mW mZero := by
  funext n
  unfold mI mW
  have e : mIs 45 = mfs mZero := by
    unfold mIs mfs
    refine List.map_congr_left fun j hj => ?_
    have := List.mem_range.mp hj
    unfold mIf mf
    by_cases h : mlen j = 0
    · rw [if_pos h, if_pos h]; rfl
    · rw [if_neg h, if_neg h, if_pos this]
  rw [e]
  by_cases h1 : n = 1000
  · rw [if_pos h1, if_pos h1]
  · rw [if_neg h1, if_neg h1]
    by_cases h2 : 1001 ≤ n ∧ n < 1046 ∧ mlen (n - 1001) ≠ 0
    · rw [if_pos h2, if_pos (show 1001 ≤ n ∧ n < 1001 + 45 ∧ mlen (n - 1001) ≠ 0 from h2)]; rfl
    · rw [if_neg h2, if_neg (show ¬ (1001 ≤ n ∧ n < 1001 + 45 ∧ mlen (n - 1001) ≠ 0) from h2)]
theorem mIs_set {m : Nat} (hm : m < 45) (hl : mlen m ≠ 0) : (mIs m).set m (.ref (1001 + m)) = mIs (m + 1) := by
  apply List.ext_getElem?
  intro j
  by_cases hj : j < 45
  · rw [mIs_at (m + 1) hj]
    by_cases e : m = j
    · subst e
      rw [List.getElem?_set_self (by unfold mIs; rw [List.length_map, List.length_range]; exact hm)]
      unfold mIf
      rw [if_neg hl, if_pos (Nat.lt_succ_self m)]
    · rw [List.getElem?_set_ne e, mIs_at m hj]
      unfold mIf
      by_cases h0 : mlen j = 0
      · rw [if_pos h0, if_pos h0]
      · rw [if_neg h0, if_neg h0]
        by_cases h1 : j < m
        · rw [if_pos h1, if_pos (by omega)]
        · rw [if_neg h1, if_neg (by omega)]
  · have l1 : ∀ q, (mIs q).length = 45 := fun q => by unfold mIs; rw [List.length_map, List.length_range]
    rw [List.getElem?_eq_none (by rw [List.length_set, l1]; omega), List.getElem?_eq_none (by rw [l1]; omega)]
theorem mI_skip {m : Nat} (hl : mlen m = 0) : mI m = mI (m + 1) := by
  funext n
  have e : mIs m = mIs (m + 1) := by
    unfold mIs
    refine List.map_congr_left fun j _ => ?_
    unfold mIf
    by_cases h : mlen j = 0
    · rw [if_pos h, if_pos h]
    · rw [if_neg h, if_neg h]
      by_cases h1 : j < m
      · rw [if_pos h1, if_pos (by omega)]
      · rw [if_neg h1, if_neg (fun z => by have : j = m := (by omega); exact h (by rw [this]; exact hl))]
  unfold mI
  rw [e]
  by_cases h1 : n = 1000
  · rw [if_pos h1, if_pos h1]
  · rw [if_neg h1, if_neg h1]
    by_cases h2 : 1001 ≤ n ∧ n < 1001 + m ∧ mlen (n - 1001) ≠ 0
    · rw [if_pos h2, if_pos ⟨h2.1, by omega, h2.2.2⟩]
    · rw [if_neg h2, if_neg (fun z => h2 ⟨z.1, by
        have : n - 1001 ≠ m := fun q => z.2.2 (by rw [q]; exact hl)
        omega, z.2.2⟩)]
theorem mI_step {m : Nat} (hm : m < 45) (hl : mlen m ≠ 0) : upw (upw (mI m) (1001 + m) (.inl (mty m, true, mlen m, fun _ => .int 0))) 1000 (.inr (12, true, (mIs m).set m (.ref (1001 + m)))) = mI (m + 1) := by
  rw [mIs_set hm hl]
  funext n
  by_cases h1 : n = 1000
  · rw [h1, upw_self]
    unfold mI
    rw [if_pos rfl]
  · rw [upw_ne h1]
    by_cases h2 : n = 1001 + m
    · rw [h2, upw_self]
      unfold mI
      rw [if_neg (by omega), if_pos ⟨by omega, by omega, by rw [Nat.add_sub_cancel_left]; exact hl⟩, Nat.add_sub_cancel_left]
    · rw [upw_ne h2]
      unfold mI
      rw [if_neg h1, if_neg h1]
      by_cases h3 : 1001 ≤ n ∧ n < 1001 + m ∧ mlen (n - 1001) ≠ 0
      · rw [if_pos h3, if_pos ⟨h3.1, by omega, h3.2.2⟩]
      · rw [if_neg h3, if_neg (fun z => h3 ⟨z.1, by omega, z.2.2⟩)]
def mF : Nat → Prop := fun n => 1000 < n ∧ n < 1046
theorem mI_nr (m : Nat) : ∀ n c, mI m n = some c → xnr (1001 + m) c := by
  intro n c h
  unfold mI at h
  split at h
  · cases h
    intro v hv
    obtain ⟨j, hj, rfl⟩ := List.mem_map.mp hv
    unfold mIf
    split
    · exact fun z => nomatch z
    · split
      · intro z
        have e : (1001 + j : Nat) = 1001 + m := Value.ref.inj z
        omega
      · exact fun z => nomatch z
  · split at h
    · cases h
      intro j _ z
      exact nomatch z
    · cases h
theorem tyX5_a : ∀ j, j < 45 → mlen j ≠ 0 → tyX5 j = .array (mty j) := by decide +kernel
theorem TX5_fa : ∀ j, j < 45 → mlen j ≠ 0 → (TX5 j).2.2.2 = true := by decide +kernel
theorem TX5_c : ∀ j, j < 45 → (TX5 j).1 = RX5 := by decide +kernel
theorem mty_ok (j : Nat) (h : mlen j ≠ 0) (hj : j < 45) : mlen j * componentBytes (mty j) ≤ 536870912 := by
  have : ∀ j, j < 45 → mlen j * componentBytes (mty j) ≤ 536870912 := by decide +kernel
  exact this j hj
section
variable {l : Launch} {M : xM} {Rm : Room} {Q : Option Value → xW → Prop} {pc : Nat} {st : List Value} {k n : Nat}
/-- a new array into its field -/
theorem Vi_arr {at_ : ArrayType} {index : Nat} {k' n' : Nat} (j : Nat) (hj : j < 45 ∧ mlen j ≠ 0) (hat : newarray.typeOf at_ = mty j) (hd1 : decode M.2.1 pc = .ok (.newarray at_, 2)) (hd2 : decode M.2.1 (pc + 2) = .ok (.putfield index, 3)) (hac : Cond.arrayClass (mty j) ∈ lw_all) (hlk : Cond.fieldLink M.1 index (TX5 j).1 (TX5 j).2.1 (TX5 j).2.2.1 ∈ lw_all) (hinit : M.2.2.2.2.2 = "<init>") (hM : M.1 = RX5)
    (hR : 1 + k' ≤ k ∧ mlen j + n' ≤ n) (kk : V l M (Rm, mF, Q, xX0) (pc + 5) [some (.ref 1000)] [] (mI (j + 1)) k' n') : V l M (Rm, mF, Q, xX0) pc [some (.ref 1000)] [.int (nI (mlen j)), .ref 1000] (mI j) k n := by
  have hnn : ¬ nI (mlen j) < 0 := nI_pos (mlen_lt j)
  refine V_newa (1001 + j) hat hd1 hac hnn (nI_clamp (mlen_lt j)) (mty_ok j hj.2 hj.1) (f := fun _ => .int 0) (fun q _ => by unfold mty; split <;> rfl) ?_ ⟨by omega, by omega⟩ (mI_nr j) ?_ ?_ hR ?_
  · unfold mI
    rw [if_neg (by omega), if_neg (by omega)]
  · intro v hv z
    subst z
    have e : (1001 + j : Nat) = 1000 := Value.ref.inj (Option.some.inj (List.mem_singleton.mp hv))
    omega
  · intro v hv z
    subst z
    have e : (1001 + j : Nat) = 1000 := Value.ref.inj (List.mem_singleton.mp hv)
    omega
  · refine V_putF (C := RX5) (T := TX5) (ty := tyX5) (N := 45) (i := j) k_X5 hd2 hj.1 hlk (TX5_fa j hj.1 hj.2) hinit (by rw [TX5_c j hj.1, hM]) (fs := mIs j) (by rw [upw_ne (by omega)]; unfold mI; rw [if_pos rfl]) (by unfold mIs; rw [List.length_map, List.length_range]; exact hj.1) ?_ ?_ ?_
    · intro ad
      rw [tyX5_a j hj.1 hj.2]
      rfl
    · intro ad
      rw [tyX5_a j hj.1 hj.2]
      rfl
    · rw [mI_step hj.1 hj.2]
      exact kk
end

set_option maxHeartbeats 4000000 in
theorem m_init (l : Launch) : Cn l yX5_init (ws_ yX5_init cX5_init 1 none) (rmD 1 34 1516, mF, fun r w => r = none ∧ w = mW mZero, xX0) [.ref 1000] (mI 0) := by
  refine Cn_start (y := yX5_init) (cc := cX5_init) (nL := 1) (ret := none) (as := [.ref 1000]) (ls := [some (.ref 1000)]) (by decide) rfl (Nat.le_of_ble_eq_true rfl) (fun n h1 h2 h3 => ?_) ?_
  · have : 1000 < n := h3.1
    omega
  show V l _ _ 0 _ _ _ 34 1516
  refine V_aload_n dX5_init_0 rfl ?_
  refine V_objInit dX5_init_1 q1163 q131 q132 (by decide) (by decide) ?_
  refine V_aload_n dX5_init_4 rfl ?_
  refine V_iconst dX5_init_5 li_2 ?_
  refine Vi_arr (k' := 33) (n' := 1514) 0 (by decide) rfl dX5_init_6 dX5_init_8 q226 q1164 rfl rfl (by decide) ?_
  refine V_aload_n dX5_init_11 rfl ?_
  refine V_bipush dX5_init_12 lb_98 ?_
  refine Vi_arr (k' := 32) (n' := 1416) 1 (by decide) rfl dX5_init_14 dX5_init_16 q226 q1165 rfl rfl (by decide) ?_
  rw [mI_skip (m := 2) rfl]
  refine V_aload_n dX5_init_19 rfl ?_
  refine V_bipush dX5_init_20 lb_9 ?_
  refine Vi_arr (k' := 31) (n' := 1407) 3 (by decide) rfl dX5_init_22 dX5_init_24 q226 q1167 rfl rfl (by decide) ?_
  refine V_aload_n dX5_init_27 rfl ?_
  refine V_bipush dX5_init_28 lb_9 ?_
  refine Vi_arr (k' := 30) (n' := 1398) 4 (by decide) rfl dX5_init_30 dX5_init_32 q226 q1168 rfl rfl (by decide) ?_
  rw [mI_skip (m := 5) rfl]
  refine V_aload_n dX5_init_35 rfl ?_
  refine V_bipush dX5_init_36 lb_12 ?_
  refine Vi_arr (k' := 29) (n' := 1386) 6 (by decide) rfl dX5_init_38 dX5_init_40 q226 q1170 rfl rfl (by decide) ?_
  refine V_aload_n dX5_init_43 rfl ?_
  refine V_bipush dX5_init_44 lb_12 ?_
  refine Vi_arr (k' := 28) (n' := 1374) 7 (by decide) rfl dX5_init_46 dX5_init_48 q226 q1171 rfl rfl (by decide) ?_
  refine V_aload_n dX5_init_51 rfl ?_
  refine V_bipush dX5_init_52 lb_12 ?_
  refine Vi_arr (k' := 27) (n' := 1362) 8 (by decide) rfl dX5_init_54 dX5_init_56 q226 q1172 rfl rfl (by decide) ?_
  refine V_aload_n dX5_init_59 rfl ?_
  refine V_bipush dX5_init_60 lb_12 ?_
  refine Vi_arr (k' := 26) (n' := 1350) 9 (by decide) rfl dX5_init_62 dX5_init_64 q226 q1173 rfl rfl (by decide) ?_
  rw [mI_skip (m := 10) rfl]
  refine V_aload_n dX5_init_67 rfl ?_
  refine V_bipush dX5_init_68 lb_9 ?_
  refine Vi_arr (k' := 25) (n' := 1341) 11 (by decide) rfl dX5_init_70 dX5_init_72 q226 q1175 rfl rfl (by decide) ?_
  refine V_aload_n dX5_init_75 rfl ?_
  refine V_bipush dX5_init_76 lb_9 ?_
  refine Vi_arr (k' := 24) (n' := 1332) 12 (by decide) rfl dX5_init_78 dX5_init_80 q226 q1176 rfl rfl (by decide) ?_
  rw [mI_skip (m := 13) rfl]
  refine V_aload_n dX5_init_83 rfl ?_
  refine V_bipush dX5_init_84 lb_6 ?_
  refine Vi_arr (k' := 23) (n' := 1326) 14 (by decide) rfl dX5_init_86 dX5_init_88 q226 q1178 rfl rfl (by decide) ?_
  refine V_aload_n dX5_init_91 rfl ?_
  refine V_bipush dX5_init_92 lb_6 ?_
  refine Vi_arr (k' := 22) (n' := 1320) 15 (by decide) rfl dX5_init_94 dX5_init_96 q226 q1179 rfl rfl (by decide) ?_
  refine V_aload_n dX5_init_99 rfl ?_
  refine V_bipush dX5_init_100 lb_6 ?_
  refine Vi_arr (k' := 21) (n' := 1314) 16 (by decide) rfl dX5_init_102 dX5_init_104 q226 q1180 rfl rfl (by decide) ?_
  rw [mI_skip (m := 17) rfl]
  refine V_aload_n dX5_init_107 rfl ?_
  refine V_bipush dX5_init_108 lb_6 ?_
  refine Vi_arr (k' := 20) (n' := 1308) 18 (by decide) rfl dX5_init_110 dX5_init_112 q226 q1182 rfl rfl (by decide) ?_
  refine V_aload_n dX5_init_115 rfl ?_
  refine V_bipush dX5_init_116 lb_6 ?_
  refine Vi_arr (k' := 19) (n' := 1302) 19 (by decide) rfl dX5_init_118 dX5_init_120 q226 q1183 rfl rfl (by decide) ?_
  refine V_aload_n dX5_init_123 rfl ?_
  refine V_bipush dX5_init_124 lb_6 ?_
  refine Vi_arr (k' := 18) (n' := 1296) 20 (by decide) rfl dX5_init_126 dX5_init_128 q226 q1184 rfl rfl (by decide) ?_
  rw [mI_skip (m := 21) rfl]
  rw [mI_skip (m := 22) rfl]
  refine V_aload_n dX5_init_131 rfl ?_
  refine V_bipush dX5_init_132 lb_9 ?_
  refine Vi_arr (k' := 17) (n' := 1287) 23 (by decide) rfl dX5_init_134 dX5_init_136 q226 q1187 rfl rfl (by decide) ?_
  refine V_aload_n dX5_init_139 rfl ?_
  refine V_bipush dX5_init_140 lb_9 ?_
  refine Vi_arr (k' := 16) (n' := 1278) 24 (by decide) rfl dX5_init_142 dX5_init_144 q226 q1188 rfl rfl (by decide) ?_
  rw [mI_skip (m := 25) rfl]
  rw [mI_skip (m := 26) rfl]
  refine V_aload_n dX5_init_147 rfl ?_
  refine V_bipush dX5_init_148 lb_8 ?_
  refine Vi_arr (k' := 15) (n' := 1270) 27 (by decide) rfl dX5_init_150 dX5_init_152 q226 q1191 rfl rfl (by decide) ?_
  refine V_aload_n dX5_init_155 rfl ?_
  refine V_bipush dX5_init_156 lb_8 ?_
  refine Vi_arr (k' := 14) (n' := 1262) 28 (by decide) rfl dX5_init_158 dX5_init_160 q226 q1192 rfl rfl (by decide) ?_
  refine V_aload_n dX5_init_163 rfl ?_
  refine V_bipush dX5_init_164 lb_12 ?_
  refine Vi_arr (k' := 13) (n' := 1250) 29 (by decide) rfl dX5_init_166 dX5_init_168 q226 q1193 rfl rfl (by decide) ?_
  refine V_aload_n dX5_init_171 rfl ?_
  refine V_sipush dX5_init_172 ls_192 ?_
  refine Vi_arr (k' := 12) (n' := 1058) 30 (by decide) rfl dX5_init_175 dX5_init_177 q226 q1194 rfl rfl (by decide) ?_
  refine V_aload_n dX5_init_180 rfl ?_
  refine V_sipush dX5_init_181 ls_192 ?_
  refine Vi_arr (k' := 11) (n' := 866) 31 (by decide) rfl dX5_init_184 dX5_init_186 q226 q1195 rfl rfl (by decide) ?_
  refine V_aload_n dX5_init_189 rfl ?_
  refine V_sipush dX5_init_190 ls_288 ?_
  refine Vi_arr (k' := 10) (n' := 578) 32 (by decide) rfl dX5_init_193 dX5_init_195 q226 q1196 rfl rfl (by decide) ?_
  refine V_aload_n dX5_init_198 rfl ?_
  refine V_iconst dX5_init_199 li_2 ?_
  refine Vi_arr (k' := 9) (n' := 576) 33 (by decide) rfl dX5_init_200 dX5_init_202 q226 q1197 rfl rfl (by decide) ?_
  rw [mI_skip (m := 34) rfl]
  refine V_aload_n dX5_init_205 rfl ?_
  refine V_bipush dX5_init_206 lb_8 ?_
  refine Vi_arr (k' := 8) (n' := 568) 35 (by decide) rfl dX5_init_208 dX5_init_210 q226 q1199 rfl rfl (by decide) ?_
  refine V_aload_n dX5_init_213 rfl ?_
  refine V_bipush dX5_init_214 lb_8 ?_
  refine Vi_arr (k' := 7) (n' := 560) 36 (by decide) rfl dX5_init_216 dX5_init_218 q226 q1200 rfl rfl (by decide) ?_
  refine V_aload_n dX5_init_221 rfl ?_
  refine V_bipush dX5_init_222 lb_8 ?_
  refine Vi_arr (k' := 6) (n' := 552) 37 (by decide) rfl dX5_init_224 dX5_init_226 q226 q1201 rfl rfl (by decide) ?_
  refine V_aload_n dX5_init_229 rfl ?_
  refine V_sipush dX5_init_230 ls_240 ?_
  refine Vi_arr (k' := 5) (n' := 312) 38 (by decide) rfl dX5_init_233 dX5_init_235 q226 q1202 rfl rfl (by decide) ?_
  refine V_aload_n dX5_init_238 rfl ?_
  refine V_iconst dX5_init_239 li_4 ?_
  refine Vi_arr (k' := 4) (n' := 308) 39 (by decide) rfl dX5_init_240 dX5_init_242 q1300 q1203 rfl rfl (by decide) ?_
  refine V_aload_n dX5_init_245 rfl ?_
  refine V_iconst dX5_init_246 li_4 ?_
  refine Vi_arr (k' := 3) (n' := 304) 40 (by decide) rfl dX5_init_247 dX5_init_249 q226 q1204 rfl rfl (by decide) ?_
  refine V_aload_n dX5_init_252 rfl ?_
  refine V_iconst dX5_init_253 li_4 ?_
  refine Vi_arr (k' := 2) (n' := 300) 41 (by decide) rfl dX5_init_254 dX5_init_256 q226 q1205 rfl rfl (by decide) ?_
  refine V_aload_n dX5_init_259 rfl ?_
  refine V_sipush dX5_init_260 ls_240 ?_
  refine Vi_arr (k' := 1) (n' := 60) 42 (by decide) rfl dX5_init_263 dX5_init_265 q226 q1206 rfl rfl (by decide) ?_
  refine V_aload_n dX5_init_268 rfl ?_
  refine V_bipush dX5_init_269 lb_60 ?_
  refine Vi_arr (k' := 0) (n' := 0) 43 (by decide) rfl dX5_init_271 dX5_init_273 q226 q1207 rfl rfl (by decide) ?_
  rw [mI_skip (m := 44) rfl]
  rw [mI_end]
  exact V_vreturn dX5_init_276 rfl ⟨rfl, rfl⟩
