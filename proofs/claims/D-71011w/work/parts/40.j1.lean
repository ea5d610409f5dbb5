/-! JDK's methods -/
set_option maxRecDepth 100000
theorem upw_upw {w : xW} {a : Nat} {c d : xC} : upw (upw w a c) a d = upw w a d := by
  funext n
  by_cases e : n = a
  · rw [e, upw_self, upw_self]
  · rw [upw_ne e, upw_ne e, upw_ne e]
theorem upw_same {w : xW} {a : Nat} {c : xC} (h : w a = some c) : upw w a c = w := by
  funext n
  by_cases e : n = a
  · rw [e, upw_self, h]
  · rw [upw_ne e]
theorem upw_comm {w : xW} {a b : Nat} {c d : xC} (h : a ≠ b) : upw (upw w a c) b d = upw (upw w b d) a c := by
  funext n
  by_cases e : n = a
  · rw [e, upw_ne h, upw_self, upw_self]
  · by_cases e2 : n = b
    · rw [e2, upw_self, upw_ne (Ne.symm h), upw_self]
    · rw [upw_ne e2, upw_ne e, upw_ne e, upw_ne e2]
section Q0
variable {l : Launch} {M : xM} {S : xS} {pc : Nat} {ls : List (Option Value)} {st : List Value} {w : xW} {k n : Nat}
/-- a static field that holds null or some reference: by the name a, which is nobody's -/
theorem V_getsQ {C nm d : String} {index : Nat} (a : Nat) (hZ : ∀ ad A U H, xZ ad A U H → va_Zq C nm d A U H) (hd : decode M.2.1 pc = .ok (.getstatic index, 3)) (hlk : Cond.fieldLink M.1 index C nm d ∈ lw_all) (hw : w a = none) (hF : S.2.1 a) (hcell : ∀ n c, w n = some c → xnr a c) (hls : ∀ v, some v ∈ ls → v ≠ .ref a) (hst : ∀ v ∈ st, v ≠ .ref a)
    (kk : ∀ v, (v = .null ∨ v = .ref a) → V l M S (pc + 3) ls (v :: st) w k n) : V l M S pc ls st w k n := by
  intro p e s m args below meth c H locs lsA D ad0 ad A cells slots hC hN hL hk hn
  obtain ⟨c1, c2, c3, c4, c5, c6, c7, c8, c9, c10, hK, hE, hz, hFF⟩ := id hC
  rcases hZ ad0 A s s.heap hz with h | ⟨t, h⟩
  · exact va_gets (ref := C) c1 c2 h hN.2.1 c6 (c7 _ hlk) (fun _ h => h) hd (kk .null (.inl rfl) p e s m args below meth c H locs lsA D ad0 ad A cells slots hC hN hL hk hn)
  · refine va_gets (ref := C) c1 c2 h hN.2.1 c6 (c7 _ hlk) (fun _ h => h) hd ?_
    have hN' := hN.name (H1 := H) hw hF hcell t (fun _ _ => rfl) hN.2.1
    have := kk (.ref a) (.inr rfl) p e s m args below meth c H locs lsA D ad0 _ A cells slots hC hN' (xl_has hL (xl_up hls)) hk hn
    rw [List.map_cons, xst_up hst] at this
    refine W.eq ?_ this
    show F0 m (pc + 3) lsA (_ :: _) = F0 m (pc + 3) lsA (_ :: _)
    congr 2
    show Value.ref _ = Value.ref (if a = a then t else ad a)
    rw [if_pos rfl]
theorem V_mmax {index : Nat} {x y : Int32} (hd : decode M.2.1 pc = .ok (.invokestatic index, 3)) (hlk : Cond.methodLink M.1 index Lib.Math.max.name ∈ lw_all) (h1 : Cond.static Lib.Math.max.name ∈ lw_all) (h2 : Cond.initialized "java/lang/Math" ∈ lw_all) (h3 : Cond.code Lib.Math.max.name Lib.Math.max.code 2 (some .int) ∈ lw_all) (hR : 1 ≤ S.1.frames ∧ 30 ≤ S.1.locals) (hcat : (st.map fun v => v.category).sum ≤ 8) (kk : V l M S (pc + 3) ls (.int (if x < y then y else x) :: st) w k n) : V l M S pc ls (.int y :: .int x :: st) w k n := by
  intro p e s m args below meth c H locs lsA D ad0 ad A cells slots hC hN hL hk hn
  have hts := hC.2.2.2.2.2.2.1
  exact va_mmax hC.1 hC.2.1 (by rw [hC.2.2.1]; exact hL.1.symm) hC.2.2.2.2.2.1 (hts _ hlk) (hts _ h1) (hts _ h2) (hts _ h3) hR.1 (by
    rw [List.map_map, show ((fun v : Value => v.category) ∘ xv ad) = fun v => v.category from funext fun v => xv_cat ad v]
    have := hR.2
    omega) (by omega) (by omega) hd (kk p e s m args below meth c H locs lsA D ad0 ad A cells slots hC hN hL hk hn)
theorem V_mmin {index : Nat} {x y : Int32} (hd : decode M.2.1 pc = .ok (.invokestatic index, 3)) (hlk : Cond.methodLink M.1 index Lib.Math.min.name ∈ lw_all) (h1 : Cond.static Lib.Math.min.name ∈ lw_all) (h2 : Cond.initialized "java/lang/Math" ∈ lw_all) (h3 : Cond.code Lib.Math.min.name Lib.Math.min.code 2 (some .int) ∈ lw_all) (hR : 1 ≤ S.1.frames ∧ 30 ≤ S.1.locals) (hcat : (st.map fun v => v.category).sum ≤ 8) (kk : V l M S (pc + 3) ls (.int (if y < x then y else x) :: st) w k n) : V l M S pc ls (.int y :: .int x :: st) w k n := by
  intro p e s m args below meth c H locs lsA D ad0 ad A cells slots hC hN hL hk hn
  have hts := hC.2.2.2.2.2.2.1
  exact va_mmin hC.1 hC.2.1 (by rw [hC.2.2.1]; exact hL.1.symm) hC.2.2.2.2.2.1 (hts _ hlk) (hts _ h1) (hts _ h2) (hts _ h3) hR.1 (by
    rw [List.map_map, show ((fun v : Value => v.category) ∘ xv ad) = fun v => v.category from funext fun v => xv_cat ad v]
    have := hR.2
    omega) (by omega) (by omega) hd (kk p e s m args below meth c H locs lsA D ad0 ad A cells slots hC hN hL hk hn)
end Q0
set_option maxHeartbeats 4000000 in
theorem j_chk9 (l : Launch) (w : xW) (i m : Nat) (hi : i < m) (hm : m < 2 ^ 31) : Cq l yJ9_checkIndex cJ9_checkIndex 3 (some .int) 0 [.int (nI i), .int (nI m), .null] w (some (.int (nI i))) := by
  refine Cq_start (ls := [some (.int (nI i)), some (.int (nI m)), some .null]) (by decide) rfl (Nat.le_of_ble_eq_true rfl) ?_
  intro Q hQ
  refine V_iload_n dJ9_checkIndex_0 rfl ?_
  refine V_if_lt (tgt := 9) dJ9_checkIndex_1 (by decide) (fun c1 => absurd c1 (nI_pos (by omega))) (fun _ => ?_)
  refine V_iload_n dJ9_checkIndex_4 rfl ?_
  refine V_iload_n dJ9_checkIndex_5 rfl ?_
  refine V_icmp_lt (tgt := 16) dJ9_checkIndex_6 (by decide) (fun _ => ?_) (fun c6 => absurd (nI_lt hi (by omega)) c6)
  refine V_iload_n dJ9_checkIndex_16 rfl ?_
  exact V_ireturn dJ9_checkIndex_17 rfl hQ
set_option maxHeartbeats 4000000 in
theorem j_chk (l : Launch) (w : xW) (i m : Nat) (hi : i < m) (hm : m < 2 ^ 31) : Cq l yJ13_checkIndex cJ13_checkIndex 2 (some .int) 1 [.int (nI i), .int (nI m)] w (some (.int (nI i))) := by
  refine Cq_start (ls := [some (.int (nI i)), some (.int (nI m))]) (by decide) rfl (Nat.le_of_ble_eq_true rfl) ?_
  intro Q hQ
  refine V_iload_n dJ13_checkIndex_0 rfl ?_
  refine V_iload_n dJ13_checkIndex_1 rfl ?_
  refine V_null dJ13_checkIndex_2 ?_
  refine Vq_s (j_chk9 l w i m hi hm) dJ13_checkIndex_3 (lw_S q672 q673 q111 q674) hs_J9_checkIndex (by decide) rfl (Nat.le_of_ble_eq_true rfl) ?_
  exact V_ireturn dJ13_checkIndex_6 rfl hQ
set_option maxHeartbeats 4000000 in
theorem j_size (l : Launch) {w : xW} {b e : Nat} {md sz : Int32} (hb : w b = some (.inr (3, true, [.int md, .ref e, .int sz]))) : Cq l yJ2_size cJ2_size 1 (some .int) 0 [.ref b] w (some (.int sz)) := by
  refine Cq_start (ls := [some (.ref b)]) (by decide) rfl (Nat.le_of_ble_eq_true rfl) ?_
  intro Q hQ
  refine V_aload_n dJ2_size_0 rfl ?_
  refine V_getf (i := 2) k_J2 dJ2_size_1 (by decide) q157 hb rfl ?_
  exact V_ireturn dJ2_size_4 rfl hQ
set_option maxHeartbeats 4000000 in
theorem j_isEmpty (l : Launch) {w : xW} {b e : Nat} {md sz : Int32} (hb : w b = some (.inr (3, true, [.int md, .ref e, .int sz]))) : Cq l yJ2_isEmpty cJ2_isEmpty 1 (some .boolean) 0 [.ref b] w (some (.int (bI (sz = 0)))) := by
  refine Cq_start (ls := [some (.ref b)]) (by decide) rfl (Nat.le_of_ble_eq_true rfl) ?_
  intro Q hQ
  refine V_aload_n dJ2_isEmpty_0 rfl ?_
  refine V_getf (i := 2) k_J2 dJ2_isEmpty_1 (by decide) q157 hb rfl ?_
  refine V_if_ne (tgt := 11) dJ2_isEmpty_4 (by decide) (fun c4 => ?_) (fun c4 => ?_)
  · refine V_iconst dJ2_isEmpty_11 li_0 ?_
    exact V_zreturn dJ2_isEmpty_12 rfl (by first | exact bI_nr | exact nr_0 | exact nr_1 | rfl) (by rw [← bI_f c4] at hQ; exact hQ)
  · refine V_iconst dJ2_isEmpty_7 li_1 ?_
    refine V_goto (tgt := 12) dJ2_isEmpty_8 (by decide) ?_
    exact V_zreturn dJ2_isEmpty_12 rfl (by first | exact bI_nr | exact nr_0 | exact nr_1 | rfl) (by rw [← bI_t c4] at hQ; exact hQ)
set_option maxHeartbeats 4000000 in
theorem j_elem (l : Launch) {w : xW} {b e : Nat} {md sz : Int32} (hb : w b = some (.inr (3, true, [.int md, .ref e, .int sz]))) {N : Nat} {ow : Bool} {f : Nat → Value} (he : w e = some (.inl (.object "java/lang/Object", ow, N, f))) (i a : Nat) (hi : i < N) (hN : N < 2 ^ 31) (ha : f i = .ref a) : Cq l yJ2_elementData cJ2_elementData 2 (some (.object "java/lang/Object")) 0 [.ref b, .int (nI i)] w (some (.ref a)) := by
  refine Cq_start (ls := [some (.ref b), some (.int (nI i))]) (by decide) rfl (Nat.le_of_ble_eq_true rfl) ?_
  intro Q hQ
  refine V_aload_n dJ2_elementData_0 rfl ?_
  refine V_getf (i := 1) k_J2 dJ2_elementData_1 (by decide) q156 hb rfl ?_
  refine V_iload_n dJ2_elementData_4 rfl ?_
  refine V_aald dJ2_elementData_5 rfl he (vp_in_nI hi hN) (v := .ref a) (by rw [nI_clamp (by omega)]; exact ha) ?_
  exact V_areturn dJ2_elementData_6 rfl (.inl ⟨_, rfl⟩) (.inr ⟨_, rfl⟩) hQ
set_option maxHeartbeats 4000000 in
theorem j_get (l : Launch) {w : xW} {b e sz : Nat} {md : Int32} (hb : w b = some (.inr (3, true, [.int md, .ref e, .int (nI sz)]))) {N : Nat} {ow : Bool} {f : Nat → Value} (he : w e = some (.inl (.object "java/lang/Object", ow, N, f))) (i a : Nat) (hi : i < sz) (hs : sz ≤ N) (hN : N < 2 ^ 31) (ha : f i = .ref a) : Cq l yJ2_get cJ2_get 2 (some (.object "java/lang/Object")) 2 [.ref b, .int (nI i)] w (some (.ref a)) := by
  refine Cq_start (ls := [some (.ref b), some (.int (nI i))]) (by decide) rfl (Nat.le_of_ble_eq_true rfl) ?_
  intro Q hQ
  refine V_iload_n dJ2_get_0 rfl ?_
  refine V_aload_n dJ2_get_1 rfl ?_
  refine V_getf (i := 2) k_J2 dJ2_get_2 (by decide) q157 hb rfl ?_
  refine Vq_s (j_chk l w i sz hi (by omega)) dJ2_get_5 (lw_S q669 q670 q118 q671) hs_J13_checkIndex (by decide) rfl (Nat.le_of_ble_eq_true rfl) ?_
  refine V_pop dJ2_get_8 rfl ?_
  refine V_aload_n dJ2_get_9 rfl ?_
  refine V_iload_n dJ2_get_10 rfl ?_
  refine Vq_v (j_elem l hb he i a (by omega) hN ha) dJ2_get_11 (lw_V q675 q676 q677 q100 q678) hv_J2_elementData (by decide) hb cl_J2 rfl rfl (Nat.le_of_ble_eq_true rfl) ?_
  exact V_areturn dJ2_get_14 rfl (.inl ⟨_, rfl⟩) (.inr ⟨_, rfl⟩) hQ
def ushI (x y : Int32) : Int32 := (x.toUInt32 >>> (y.toUInt32 &&& Int32.toUInt32 31)).toInt32
def bcI (x : Int32) : Int32 :=
  let a := x - (ushI x (nI 1) &&& 1431655765)
  let b := (a &&& 858993459) + (ushI a (nI 2) &&& 858993459)
  let c := (b + ushI b (nI 4)) &&& 252645135
  let d := c + ushI c (nI 8)
  let e := d + ushI d (nI 16)
  e &&& nI 63
set_option maxHeartbeats 4000000 in
theorem j_bitCount (l : Launch) (w : xW) (x : Int32) : Cq l yJ14_bitCount cJ14_bitCount 1 (some .int) 0 [.int x] w (some (.int (bcI x))) := by
  refine Cq_start (ls := [some (.int x)]) (by decide) rfl (Nat.le_of_ble_eq_true rfl) ?_
  intro Q hQ
  refine V_iload_n dJ14_bitCount_0 rfl ?_
  refine V_iload_n dJ14_bitCount_1 rfl ?_
  refine V_iconst dJ14_bitCount_2 li_1 ?_
  refine V_iushr dJ14_bitCount_3 rfl ?_
  refine V_ldcw dJ14_bitCount_4 q900 ?_
  refine V_iand dJ14_bitCount_7 ?_
  refine V_isub dJ14_bitCount_8 ?_
  refine V_istore_n dJ14_bitCount_9 rfl (Nat.le_of_ble_eq_true rfl) (Nat.le_of_ble_eq_true rfl) ?_
  show V l _ _ _ [_] _ _ _ _
  refine V_iload_n dJ14_bitCount_10 rfl ?_
  refine V_ldcw dJ14_bitCount_11 q901 ?_
  refine V_iand dJ14_bitCount_14 ?_
  refine V_iload_n dJ14_bitCount_15 rfl ?_
  refine V_iconst dJ14_bitCount_16 li_2 ?_
  refine V_iushr dJ14_bitCount_17 rfl ?_
  refine V_ldcw dJ14_bitCount_18 q901 ?_
  refine V_iand dJ14_bitCount_21 ?_
  refine V_iadd dJ14_bitCount_22 ?_
  refine V_istore_n dJ14_bitCount_23 rfl (Nat.le_of_ble_eq_true rfl) (Nat.le_of_ble_eq_true rfl) ?_
  show V l _ _ _ [_] _ _ _ _
  refine V_iload_n dJ14_bitCount_24 rfl ?_
  refine V_iload_n dJ14_bitCount_25 rfl ?_
  refine V_iconst dJ14_bitCount_26 li_4 ?_
  refine V_iushr dJ14_bitCount_27 rfl ?_
  refine V_iadd dJ14_bitCount_28 ?_
  refine V_ldcw dJ14_bitCount_29 q902 ?_
  refine V_iand dJ14_bitCount_32 ?_
  refine V_istore_n dJ14_bitCount_33 rfl (Nat.le_of_ble_eq_true rfl) (Nat.le_of_ble_eq_true rfl) ?_
  show V l _ _ _ [_] _ _ _ _
  refine V_iload_n dJ14_bitCount_34 rfl ?_
  refine V_iload_n dJ14_bitCount_35 rfl ?_
  refine V_bipush dJ14_bitCount_36 lb_8 ?_
  refine V_iushr dJ14_bitCount_38 rfl ?_
  refine V_iadd dJ14_bitCount_39 ?_
  refine V_istore_n dJ14_bitCount_40 rfl (Nat.le_of_ble_eq_true rfl) (Nat.le_of_ble_eq_true rfl) ?_
  show V l _ _ _ [_] _ _ _ _
  refine V_iload_n dJ14_bitCount_41 rfl ?_
  refine V_iload_n dJ14_bitCount_42 rfl ?_
  refine V_bipush dJ14_bitCount_43 lb_16 ?_
  refine V_iushr dJ14_bitCount_45 rfl ?_
  refine V_iadd dJ14_bitCount_46 ?_
  refine V_istore_n dJ14_bitCount_47 rfl (Nat.le_of_ble_eq_true rfl) (Nat.le_of_ble_eq_true rfl) ?_
  show V l _ _ _ [_] _ _ _ _
  refine V_iload_n dJ14_bitCount_48 rfl ?_
  refine V_bipush dJ14_bitCount_49 lb_63 ?_
  refine V_iand dJ14_bitCount_51 ?_
  exact V_ireturn dJ14_bitCount_52 rfl hQ
/-- the first place of v among the j places of g from i on, or -1 -/
def ixK (g : Nat → Int32) (v : Int32) : Nat → Nat → Int32
  | 0, _ => -1
  | j + 1, i => if g i = v then nI i else ixK g v j (i + 1)
theorem nI_shr0 {n : Nat} (h : n < 2 ^ 31) : nI n >>> ((0 : Int32) &&& 31) = nI n := by
  have := pk_shrN h ((0 : Int32) &&& 31) 0 (by decide +kernel)
  rw [this]
  simp
set_option maxHeartbeats 4000000 in
theorem j_isLatin1 (l : Launch) {w : xW} {b a : Nat} (hs : w b = some (.inr (11, false, [.ref a, .int 0]))) : Cq l yJ5_isLatin1 cJ5_isLatin1 1 (some .boolean) 0 [.ref b] w (some (.int (nI 1))) := by
  refine Cq_start (ls := [some (.ref b)]) (by decide) rfl (Nat.le_of_ble_eq_true rfl) ?_
  intro Q hQ
  refine V_gets (v := .int 1) (fun _ _ _ _ h => h.2.2.1) (fun _ h => nomatch h) dJ5_isLatin1_0 q462 ?_
  refine V_if_eq (tgt := 17) dJ5_isLatin1_3 (by decide) (fun c3 => absurd c3 (by decide)) (fun _ => ?_)
  refine V_aload_n dJ5_isLatin1_6 rfl ?_
  refine V_getf (i := 1) k_J5 dJ5_isLatin1_7 (by decide) q1726 hs rfl ?_
  refine V_if_ne (tgt := 17) dJ5_isLatin1_10 (by decide) (fun c10 => absurd rfl c10) (fun _ => ?_)
  refine V_iconst dJ5_isLatin1_13 li_1 ?_
  refine V_goto (tgt := 18) dJ5_isLatin1_14 (by decide) ?_
  exact V_zreturn dJ5_isLatin1_18 rfl (by first | exact bI_nr | exact nr_0 | exact nr_1 | rfl) hQ
set_option maxHeartbeats 4000000 in
theorem j_coder (l : Launch) {w : xW} {b a : Nat} (hs : w b = some (.inr (11, false, [.ref a, .int 0]))) : Cq l yJ5_coder cJ5_coder 1 (some .byte) 0 [.ref b] w (some (.int 0)) := by
  refine Cq_start (ls := [some (.ref b)]) (by decide) rfl (Nat.le_of_ble_eq_true rfl) ?_
  intro Q hQ
  refine V_gets (v := .int 1) (fun _ _ _ _ h => h.2.2.1) (fun _ h => nomatch h) dJ5_coder_0 q462 ?_
  refine V_if_eq (tgt := 13) dJ5_coder_3 (by decide) (fun c3 => absurd c3 (by decide)) (fun _ => ?_)
  refine V_aload_n dJ5_coder_6 rfl ?_
  refine V_getf (i := 1) k_J5 dJ5_coder_7 (by decide) q1726 hs rfl ?_
  refine V_goto (tgt := 14) dJ5_coder_10 (by decide) ?_
  exact V_zreturn dJ5_coder_14 rfl (by first | exact bI_nr | exact nr_0 | exact nr_1 | rfl) hQ
set_option maxHeartbeats 4000000 in
theorem j_length (l : Launch) {w : xW} {b a N : Nat} {g : Nat → Int32} (hs : w b = some (.inr (11, false, [.ref a, .int 0]))) (ha : w a = some (.inl (.byte, false, N, fun j => .int (g j)))) (hN : N < 2 ^ 31) : Cq l yJ5_length cJ5_length 1 (some .int) 1 [.ref b] w (some (.int (nI N))) := by
  refine Cq_start (ls := [some (.ref b)]) (by decide) rfl (Nat.le_of_ble_eq_true rfl) ?_
  intro Q hQ
  refine V_aload_n dJ5_length_0 rfl ?_
  refine V_getf (i := 0) k_J5 dJ5_length_1 (by decide) q1727 hs rfl ?_
  refine V_alen dJ5_length_4 ha ?_
  refine V_aload_n dJ5_length_5 rfl ?_
  refine Vq_v (j_coder l hs) dJ5_length_6 (lw_V q468 q469 q470 q107 q471) hv_J5_coder (by decide) hs cl_J5 rfl rfl (Nat.le_of_ble_eq_true rfl) ?_
  refine V_ishr dJ5_length_9 ?_
  exact V_ireturn dJ5_length_10 rfl (by rw [nI_shr0 hN]; exact hQ)
set_option maxHeartbeats 4000000 in
theorem j_canEncode (l : Launch) (w : xW) (c : Nat) (hc : c < 256) : Cq l yJ6_canEncode cJ6_canEncode 1 (some .boolean) 0 [.int (nI c)] w (some (.int (nI 1))) := by
  refine Cq_start (ls := [some (.int (nI c))]) (by decide) rfl (Nat.le_of_ble_eq_true rfl) ?_
  intro Q hQ
  refine V_iload_n dJ6_canEncode_0 rfl ?_
  refine V_if_lt (tgt := 15) dJ6_canEncode_1 (by decide) (fun c1 => absurd c1 (nI_pos (by omega))) (fun _ => ?_)
  refine V_iload_n dJ6_canEncode_4 rfl ?_
  refine V_sipush dJ6_canEncode_5 ls_255 ?_
  refine V_icmp_gt (tgt := 15) dJ6_canEncode_8 (by decide) (fun c8 => absurd c8 (nI_nlt (by omega) (by omega))) (fun _ => ?_)
  refine V_iconst dJ6_canEncode_11 li_1 ?_
  refine V_goto (tgt := 16) dJ6_canEncode_12 (by decide) ?_
  exact V_zreturn dJ6_canEncode_16 rfl (by first | exact bI_nr | exact nr_0 | exact nr_1 | rfl) hQ
set_option maxHeartbeats 4000000 in
theorem j_ixc (l : Launch) {w : xW} {a N : Nat} {g : Nat → Int32} (ha : w a = some (.inl (.byte, false, N, fun j => .int (g j)))) (hN : N < 2 ^ 31) (c : Nat) : Cq l yJ6_indexOfChar cJ6_indexOfChar 6 (some .int) 0 [.ref a, .int (nI c), .int (nI 0), .int (nI N)] w (some (.int (ixK g (nI c).toInt8.toInt32 N 0))) := by
  refine Cq_start (ls := [some (.ref a), some (.int (nI c)), some (.int (nI 0)), some (.int (nI N)), none, none]) (by decide) rfl (Nat.le_of_ble_eq_true rfl) ?_
  intro Q hQ
  have L7 : ∀ (j : Nat) (i : Nat) (hj : i + j = N) (hR : ixK g (nI c).toInt8.toInt32 j i = ixK g (nI c).toInt8.toInt32 N 0), V l (yJ6_indexOfChar.cls, cJ6_indexOfChar, 6, (some .int), [], yJ6_indexOfChar.name) (rmD 0 0 0, xF0, Q, xX0) 7 [some (.ref a), some (.int (nI c)), some (.int (nI 0)), some (.int (nI N)), some (.int (nI c).toInt8.toInt32), some (.int (nI i))] [] w 0 0 := by
    intro j
    induction j with
    | zero =>
      intro i hj hR
      refine V_iload dJ6_indexOfChar_7 rfl ?_
      refine V_iload_n dJ6_indexOfChar_9 rfl ?_
      refine V_icmp_ge (tgt := 31) dJ6_indexOfChar_10 (by decide) (fun _ => ?_) (fun c10 => absurd (nI_le (by omega) (by omega)) c10)
      refine V_iconst dJ6_indexOfChar_31 li_m1 ?_
      exact V_ireturn dJ6_indexOfChar_32 rfl (by rw [← hR] at hQ; exact hQ)
    | succ j ih =>
      intro i hj hR
      refine V_iload dJ6_indexOfChar_7 rfl ?_
      refine V_iload_n dJ6_indexOfChar_9 rfl ?_
      refine V_icmp_ge (tgt := 31) dJ6_indexOfChar_10 (by decide) (fun c10 => absurd c10 (nI_ge (by omega) (by omega))) (fun _ => ?_)
      refine V_aload_n dJ6_indexOfChar_13 rfl ?_
      refine V_iload dJ6_indexOfChar_14 rfl ?_
      refine V_bald dJ6_indexOfChar_16 ha (vp_in_nI (by omega) hN) (by rw [nI_clamp (by omega)]) ?_
      refine V_iload dJ6_indexOfChar_17 rfl ?_
      refine V_icmp_ne (tgt := 25) dJ6_indexOfChar_19 (by decide) (fun c19 => ?_) (fun c19 => ?_)
      · refine V_iinc dJ6_indexOfChar_25 rfl (iinc_1 _) rfl (Nat.le_of_ble_eq_true rfl) ?_
        refine V_goto (tgt := 7) dJ6_indexOfChar_28 (by decide) ?_
        exact ih (i + 1) (by omega) (by rw [← hR]; exact (if_neg c19).symm)
      · refine V_iload dJ6_indexOfChar_22 rfl ?_
        exact V_ireturn dJ6_indexOfChar_24 rfl (by rw [← hR] at hQ; rw [show ixK g (nI c).toInt8.toInt32 (j + 1) i = nI i from if_pos c19] at hQ; exact hQ)
  refine V_iload_n dJ6_indexOfChar_0 rfl ?_
  refine V_i2b dJ6_indexOfChar_1 rfl ?_
  refine V_istore dJ6_indexOfChar_2 rfl (Nat.le_of_ble_eq_true rfl) (Nat.le_of_ble_eq_true rfl) ?_
  refine V_iload_n dJ6_indexOfChar_4 rfl ?_
  refine V_istore dJ6_indexOfChar_5 rfl (Nat.le_of_ble_eq_true rfl) (Nat.le_of_ble_eq_true rfl) ?_
  exact L7 N 0 (by omega) rfl
set_option maxHeartbeats 4000000 in
theorem j_ixL (l : Launch) {w : xW} {a N : Nat} {g : Nat → Int32} (ha : w a = some (.inl (.byte, false, N, fun j => .int (g j)))) (hN : N < 2 ^ 31) (h0 : 0 < N) (c : Nat) (hc : c < 256) : Cq l yJ6_indexOf cJ6_indexOf 4 (some .int) 1 [.ref a, .int (nI c), .int (nI 0), .int (nI N)] w (some (.int (ixK g (nI c).toInt8.toInt32 N 0))) := by
  refine Cq_start (ls := [some (.ref a), some (.int (nI c)), some (.int (nI 0)), some (.int (nI N))]) (by decide) rfl (Nat.le_of_ble_eq_true rfl) ?_
  intro Q hQ
  refine V_iload_n dJ6_indexOf_0 rfl ?_
  refine Vq_s (j_canEncode l w c hc) dJ6_indexOf_1 (lw_S q475 q476 q108 q477) hs_J6_canEncode (by decide) rfl (Nat.le_of_ble_eq_true rfl) ?_
  refine V_if_ne (tgt := 9) dJ6_indexOf_4 (by decide) (fun _ => ?_) (fun c4 => absurd c4 (by decide +kernel))
  refine V_iload_n dJ6_indexOf_9 rfl ?_
  refine V_iconst dJ6_indexOf_10 li_0 ?_
  refine V_mmax dJ6_indexOf_11 q478 q479 q109 q480 ⟨Nat.le_of_ble_eq_true rfl, Nat.le_of_ble_eq_true rfl⟩ (Nat.le_of_ble_eq_true rfl) ?_
  rw [if_neg (show ¬ nI 0 < nI 0 from nI_nlt (Nat.le_refl _) (by omega))]
  refine V_istore_n dJ6_indexOf_14 rfl (Nat.le_of_ble_eq_true rfl) (Nat.le_of_ble_eq_true rfl) ?_
  refine V_iload_n dJ6_indexOf_15 rfl ?_
  refine V_aload_n dJ6_indexOf_16 rfl ?_
  refine V_alen dJ6_indexOf_17 ha ?_
  refine V_mmin dJ6_indexOf_18 q481 q482 q109 q483 ⟨Nat.le_of_ble_eq_true rfl, Nat.le_of_ble_eq_true rfl⟩ (Nat.le_of_ble_eq_true rfl) ?_
  rw [if_neg (show ¬ nI N < nI N from nI_nlt (Nat.le_refl _) (by omega))]
  refine V_istore_n dJ6_indexOf_21 rfl (Nat.le_of_ble_eq_true rfl) (Nat.le_of_ble_eq_true rfl) ?_
  refine V_iload_n dJ6_indexOf_22 rfl ?_
  refine V_iload_n dJ6_indexOf_23 rfl ?_
  refine V_icmp_lt (tgt := 29) dJ6_indexOf_24 (by decide) (fun _ => ?_) (fun c24 => absurd (nI_lt h0 (by omega)) c24)
  refine V_aload_n dJ6_indexOf_29 rfl ?_
  refine V_iload_n dJ6_indexOf_30 rfl ?_
  refine V_iload_n dJ6_indexOf_31 rfl ?_
  refine V_iload_n dJ6_indexOf_32 rfl ?_
  refine Vq_s (j_ixc l ha hN c) dJ6_indexOf_33 (lw_S q484 q485 q108 q486) hs_J6_indexOfChar (by decide) rfl (Nat.le_of_ble_eq_true rfl) ?_
  exact V_ireturn dJ6_indexOf_36 rfl hQ
set_option maxHeartbeats 4000000 in
theorem j_ix2 (l : Launch) {w : xW} {b a N : Nat} {g : Nat → Int32} (hs : w b = some (.inr (11, false, [.ref a, .int 0]))) (ha : w a = some (.inl (.byte, false, N, fun j => .int (g j)))) (hN : N < 2 ^ 31) (h0 : 0 < N) (c : Nat) (hc : c < 256) : Cq l yJ5_indexOf_2 cJ5_indexOf_2 3 (some .int) 2 [.ref b, .int (nI c), .int (nI 0)] w (some (.int (ixK g (nI c).toInt8.toInt32 N 0))) := by
  refine Cq_start (ls := [some (.ref b), some (.int (nI c)), some (.int (nI 0))]) (by decide) rfl (Nat.le_of_ble_eq_true rfl) ?_
  intro Q hQ
  refine V_aload_n dJ5_indexOf_2_0 rfl ?_
  refine Vq_v (j_isLatin1 l hs) dJ5_indexOf_2_1 (lw_V q458 q459 q460 q107 q461) hv_J5_isLatin1 (by decide) hs cl_J5 rfl rfl (Nat.le_of_ble_eq_true rfl) ?_
  refine V_if_eq (tgt := 23) dJ5_indexOf_2_4 (by decide) (fun c4 => absurd c4 (by decide +kernel)) (fun _ => ?_)
  refine V_aload_n dJ5_indexOf_2_7 rfl ?_
  refine V_getf (i := 0) k_J5 dJ5_indexOf_2_8 (by decide) q1727 hs rfl ?_
  refine V_iload_n dJ5_indexOf_2_11 rfl ?_
  refine V_iload_n dJ5_indexOf_2_12 rfl ?_
  refine V_aload_n dJ5_indexOf_2_13 rfl ?_
  refine Vq_v (j_length l hs ha hN) dJ5_indexOf_2_14 (lw_V q464 q465 q466 q107 q467) hv_J5_length (by decide) hs cl_J5 rfl rfl (Nat.le_of_ble_eq_true rfl) ?_
  refine Vq_s (j_ixL l ha hN h0 c hc) dJ5_indexOf_2_17 (lw_S q472 q473 q108 q474) hs_J6_indexOf (by decide) rfl (Nat.le_of_ble_eq_true rfl) ?_
  refine V_goto (tgt := 36) dJ5_indexOf_2_20 (by decide) ?_
  exact V_ireturn dJ5_indexOf_2_36 rfl hQ
set_option maxHeartbeats 4000000 in
theorem j_ix (l : Launch) {w : xW} {b a N : Nat} {g : Nat → Int32} (hs : w b = some (.inr (11, false, [.ref a, .int 0]))) (ha : w a = some (.inl (.byte, false, N, fun j => .int (g j)))) (hN : N < 2 ^ 31) (h0 : 0 < N) (c : Nat) (hc : c < 256) : Cq l yJ5_indexOf cJ5_indexOf 2 (some .int) 3 [.ref b, .int (nI c)] w (some (.int (ixK g (nI c).toInt8.toInt32 N 0))) := by
  refine Cq_start (ls := [some (.ref b), some (.int (nI c))]) (by decide) rfl (Nat.le_of_ble_eq_true rfl) ?_
  intro Q hQ
  refine V_aload_n dJ5_indexOf_0 rfl ?_
  refine V_iload_n dJ5_indexOf_1 rfl ?_
  refine V_iconst dJ5_indexOf_2 li_0 ?_
  refine Vq_v (j_ix2 l hs ha hN h0 c hc) dJ5_indexOf_3 (lw_V q454 q455 q456 q107 q457) hv_J5_indexOf_2 (by decide) hs cl_J5 rfl rfl (Nat.le_of_ble_eq_true rfl) ?_
  exact V_ireturn dJ5_indexOf_6 rfl hQ
/-- names from 1590 on are nobody's -/
def tmpF (n : Nat) : Prop := 1590 ≤ n
def tmpFree (w : xW) : Prop := ∀ a, 1590 ≤ a → w a = none ∧ ∀ n c, w n = some c → xnr a c
theorem tmpFree.up {w : xW} {q : Nat} {c : xC} (h : tmpFree w) (hq : q < 1590) (hc : ∀ a, 1590 ≤ a → xnr a c) : tmpFree (upw w q c) := by
  intro a ha
  refine ⟨by rw [upw_ne (by omega)]; exact (h a ha).1, fun n d hd => ?_⟩
  by_cases e : n = q
  · rw [e, upw_self] at hd
    cases hd
    exact hc a ha
  · rw [upw_ne e] at hd
    exact (h a ha).2 n d hd
abbrev Cg (l : Launch) (y : MethodName) (cc : ByteArray) (nL : Nat) (d : Nat) (as : List Value) (w w2 : xW) : Prop := Cr l y cc nL none d 0 0 tmpF as w none w2
def tn0 (x : Int32) : xC := .inr (10, true, [.null, .null, .null, .null, .null, .int 0, .int x])
theorem tmpF_lo : ∀ n, 900 ≤ n → n < 950 → ¬ tmpF n := fun n h1 h2 h => by unfold tmpF at h; omega
set_option maxHeartbeats 4000000 in
theorem j_thr (l : Launch) {w : xW} {q : Nat} (hq : w q = some (tn0 0)) (hq9 : q < 1590) (hf : tmpFree w) : Cg l yJ3_init_2 cJ3_init_2 5 0 [.ref q, .null, .null, .int 0, .int 0] w w := by
  refine Cn_start (ls := [some (.ref q), some .null, some .null, some (.int 0), some (.int 0)]) (by decide) rfl (Nat.le_of_ble_eq_true rfl) tmpF_lo ?_
  refine V_aload_n dJ3_init_2_0 rfl ?_
  refine V_objInit dJ3_init_2_1 q390 q131 q132 ⟨Nat.le_of_ble_eq_true rfl, Nat.le_of_ble_eq_true rfl⟩ (by decide) ?_
  refine V_aload_n dJ3_init_2_4 rfl ?_
  refine V_aload_n dJ3_init_2_5 rfl ?_
  refine V_putf (i := 0) k_X6 dJ3_init_2_6 (by decide) q420 rfl hq (Nat.le_of_ble_eq_true rfl) (fun _ => rfl) (fun _ => rfl) ?_
  refine V_aload_n dJ3_init_2_9 rfl ?_
  have hf1 := hf.up (q := q) (c := .inr (10, true, [.ref q, .null, .null, .null, .null, .int 0, .int 0])) hq9 (fun a ha => xnr_o (nrc (nrR (by omega)) (nrc nrN (nrc nrN (nrc nrN (nrc nrN (nrc nrI (nrc nrI nr0))))))))
  refine V_getsQ 1590 (fun _ _ _ _ h => h.2.2.2.1.1) dJ3_init_2_10 q391 (hf1 1590 (by decide)).1 (Nat.le_refl _) (hf1 1590 (by decide)).2 (nel_c (ne_r (by omega)) (nel_c ne_z (nel_c ne_z (nel_c ne_i (nel_c ne_i nel_0))))) (nes_c (ne_r (by omega)) nes_0) (fun v hv => ?_)
  refine V_putf (i := 1) k_X6 dJ3_init_2_13 (by decide) q421 rfl upw_self (Nat.le_of_ble_eq_true rfl) (fun ad => by rcases hv with rfl | rfl <;> rfl) (fun ad => by rcases hv with rfl | rfl <;> rfl) ?_
  refine V_aload_n dJ3_init_2_16 rfl ?_
  have hf2 : (upw (upw w q (.inr (10, true, [.ref q, .null, .null, .null, .null, .int 0, .int 0]))) q (.inr (10, true, [.ref q, v, .null, .null, .null, .int 0, .int 0]))) 1591 = none ∧ ∀ n c, (upw (upw w q (.inr (10, true, [.ref q, .null, .null, .null, .null, .int 0, .int 0]))) q (.inr (10, true, [.ref q, v, .null, .null, .null, .int 0, .int 0]))) n = some c → xnr 1591 c := by
    refine ⟨by rw [upw_ne (by omega)]; exact (hf1 1591 (by decide)).1, fun n d hd => ?_⟩
    by_cases e : n = q
    · rw [e, upw_self] at hd
      cases hd
      exact xnr_o (nrc (nrR (by omega)) (nrc (fun e => by rcases hv with rfl | rfl; cases e; exact absurd (Value.ref.inj e) (by decide : ¬ (1590 : Nat) = 1591)) (nrc nrN (nrc nrN (nrc nrN (nrc nrI (nrc nrI nr0)))))))
    · rw [upw_ne e] at hd
      exact (hf1 1591 (by decide)).2 n d hd
  refine V_getsQ 1591 (fun _ _ _ _ h => h.2.2.2.2.1.1) dJ3_init_2_17 q393 hf2.1 (Nat.le_of_ble_eq_true rfl) hf2.2 (nel_c (ne_r (by omega)) (nel_c ne_z (nel_c ne_z (nel_c ne_i (nel_c ne_i nel_0))))) (nes_c (ne_r (by omega)) nes_0) (fun v2 hv2 => ?_)
  refine V_putf (i := 2) k_X6 dJ3_init_2_20 (by decide) q422 rfl upw_self (Nat.le_of_ble_eq_true rfl) (fun ad => by rcases hv2 with rfl | rfl <;> rfl) (fun ad => by rcases hv2 with rfl | rfl <;> rfl) ?_
  refine V_iload dJ3_init_2_23 rfl ?_
  refine V_if_eq (tgt := 36) dJ3_init_2_25 (by decide) (fun _ => ?_) (fun c25 => absurd rfl c25)
  refine V_aload_n dJ3_init_2_36 rfl ?_
  refine V_null dJ3_init_2_37 ?_
  refine V_putf (i := 1) k_X6 dJ3_init_2_38 (by decide) q421 rfl upw_self (Nat.le_of_ble_eq_true rfl) (fun _ => rfl) (fun _ => rfl) ?_
  refine V_aload_n dJ3_init_2_41 rfl ?_
  refine V_aload_nN dJ3_init_2_42 rfl ?_
  refine V_putf (i := 3) k_X6 dJ3_init_2_43 (by decide) q419 rfl upw_self (Nat.le_of_ble_eq_true rfl) (fun _ => rfl) (fun _ => rfl) ?_
  refine V_aload_n dJ3_init_2_46 rfl ?_
  refine V_aload_nN dJ3_init_2_47 rfl ?_
  refine V_putf (i := 0) k_X6 dJ3_init_2_48 (by decide) q420 rfl upw_self (Nat.le_of_ble_eq_true rfl) (fun _ => rfl) (fun _ => rfl) ?_
  refine V_iload_n dJ3_init_2_51 rfl ?_
  refine V_if_ne (tgt := 60) dJ3_init_2_52 (by decide) (fun c52 => absurd rfl c52) (fun _ => ?_)
  refine V_aload_n dJ3_init_2_55 rfl ?_
  refine V_null dJ3_init_2_56 ?_
  refine V_putf (i := 2) k_X6 dJ3_init_2_57 (by decide) q422 rfl upw_self (Nat.le_of_ble_eq_true rfl) (fun _ => rfl) (fun _ => rfl) ?_
  refine V_w (w2 := w) (by simp only [upw_upw]; exact upw_same hq) ?_
  exact V_vreturn dJ3_init_2_60 rfl ⟨rfl, rfl⟩
set_option maxHeartbeats 4000000 in
theorem j_exc (l : Launch) {w : xW} {q : Nat} (hq : w q = some (tn0 0)) (hq9 : q < 1590) (hf : tmpFree w) : Cg l yJ4_init cJ4_init 5 1 [.ref q, .null, .null, .int 0, .int 0] w w := by
  refine Cn_start (ls := [some (.ref q), some .null, some .null, some (.int 0), some (.int 0)]) (by decide) rfl (Nat.le_of_ble_eq_true rfl) tmpF_lo ?_
  refine V_aload_n dJ4_init_0 rfl ?_
  refine V_aload_nN dJ4_init_1 rfl ?_
  refine V_aload_nN dJ4_init_2 rfl ?_
  refine V_iload_n dJ4_init_3 rfl ?_
  refine V_iload dJ4_init_4 rfl ?_
  refine V_callI (j_thr l hq hq9 hf) dJ4_init_6 q415 q104 q413 q414 rfl hs_J3_init_2 (xfit_D (by decide) (by decide) (Nat.le_of_eq (Nat.zero_add _)) (Nat.le_of_eq (Nat.zero_add _))) rfl (Nat.le_of_ble_eq_true rfl) (fun _ h => h) (okl_c (ok_r (fun z => absurd (show 1590 ≤ q from z) (by omega))) (okl_c ok_z (okl_c ok_z (okl_c ok_i (okl_c ok_i okl_0))))) oks_0 (fun r w1 h1 => ?_) (fun _ _ _ h => h.elim)
  obtain ⟨rfl, rfl⟩ := h1
  exact V_vreturn dJ4_init_9 rfl ⟨rfl, rfl⟩
set_option maxHeartbeats 4000000 in
theorem x_torn (l : Launch) {w : xW} {q : Nat} (x : Int32) (hq : w q = some (tn0 0)) (hq9 : q < 1590) (hf : tmpFree w) : Cg l yX6_init cX6_init 2 2 [.ref q, .int x] w (upw w q (tn0 x)) := by
  refine Cn_start (ls := [some (.ref q), some (.int x)]) (by decide) rfl (Nat.le_of_ble_eq_true rfl) tmpF_lo ?_
  refine V_aload_n dX6_init_0 rfl ?_
  refine V_null dX6_init_1 ?_
  refine V_null dX6_init_2 ?_
  refine V_iconst dX6_init_3 li_0 ?_
  refine V_iconst dX6_init_4 li_0 ?_
  refine V_callI (j_exc l hq hq9 hf) dX6_init_5 q412 q105 q410 q411 rfl hs_J4_init (xfit_D (by decide) (by decide) (Nat.le_of_eq (Nat.zero_add _)) (Nat.le_of_eq (Nat.zero_add _))) rfl (Nat.le_of_ble_eq_true rfl) (fun _ h => h) (okl_c (ok_r (fun z => absurd (show 1590 ≤ q from z) (by omega))) (okl_c ok_i okl_0)) oks_0 (fun r w1 h1 => ?_) (fun _ _ _ h => h.elim)
  obtain ⟨rfl, rfl⟩ := h1
  refine V_aload_n dX6_init_8 rfl ?_
  refine V_iload_n dX6_init_9 rfl ?_
  refine V_putF (i := 6) k_X6 dX6_init_10 (by decide) q416 rfl rfl rfl hq (Nat.le_of_ble_eq_true rfl) (fun _ => rfl) (fun _ => rfl) ?_
  exact V_vreturn dX6_init_13 rfl ⟨rfl, rfl⟩
