/-! lists: add, clear, remove, in PromiseTailor's world -/
set_option maxRecDepth 100000
section Q1
variable {l : Launch} {M : xM} {S : xS} {pc : Nat} {ls : List (Option Value)} {st : List Value} {w : xW} {k n : Nat}
theorem V_putfU {C : String} {T : u_T} {ty : Nat → FieldType} {N ci i index a : Nat} {fs : List Value} {v : Value} {ref : String} (hK : xCls ci C T ty N) (hd : decode M.2.1 pc = .ok (.putfield index, 3)) (hi : i < N) (hlk : Cond.fieldLink M.1 index ref (T i).2.1 (T i).2.2.1 ∈ lw_all) (hsm : Cond.sameField ref (T i).1 (T i).2.1 (T i).2.2.1 ∈ lw_all) (hfin : (T i).2.2.2 = false) (hw : w a = some (.inr (ci, true, fs))) (hl : i < fs.length)
    (hnr : ∀ ad, narrow (ty i) (xv ad v) = xv ad v) (hfit : ∀ ad, fits (ty i) (xv ad v) = true) (kk : V l M S (pc + 3) ls st (upw w a (.inr (ci, true, fs.set i v))) k n) : V l M S pc ls (v :: .ref a :: st) w k n := by
  intro p e s m args below meth c H locs lsA D ad0 ad A cells slots hC hN hL hk hn
  have hts := hC.2.2.2.2.2.2.1
  obtain ⟨r, cell, q1, q2, q3, q4, q5, q6, q7⟩ := (hN.1.1 _ _ hw).1
  cases q1.symm.trans hK.1
  have hKa := hC.2.2.2.2.2.2.2.2.2.2.1
  obtain ⟨hS, hfc, kC, hkC, hkind⟩ := hKa.1 ci _ hK.1
  obtain ⟨cf, kf, fi, f, hf, hsl⟩ := hS i hi
  have hlay := hts _ (hK.2.1 _ (u_in_lay hi))
  unfold u_lay at hlay
  rw [if_neg (by rw [hfin]; decide)] at hlay
  have hst := (u_facts hfc hkC (u_lays hts hK.2.1 hi) hf).1
  have h6 := u_store hfc hkC hkind hlay hf (hK.2.2.1 i hi) (hnr ad) (hfit ad)
  refine W.putK hC.1 hC.2.1 (f := f) ⟨hC.2.2.2.2.2.1, hts _ hlk, ⟨_, _, _, u_same (hts _ hsm) _ hf⟩, hst⟩ (by rw [q3]; exact h6) q2 (q6 rfl) (by rw [hsl]; exact k2_hasslot (q7 i hi)) rfl rfl hd fun H' e1 e2 e3 => ?_
  rw [hsl] at e1 ⊢
  exact kk p e s m args below meth c H' _ lsA D ad0 ad A cells slots hC (hN.set hw rfl (xat_put hK.1 q3 q4 q5 q6 q7 (xapart hts hK hKa) hi hl e1) e2 e3) hL hk hn
/-- the same reference twice -/
theorem V_acmpT {a : Nat} {off : Int} {tgt : Nat} (hd : decode M.2.1 pc = .ok (.if_acmp .eq off, 3)) (ht : (pc : Int) + off = (tgt : Int)) (kk : V l M S tgt ls st w k n) : V l M S pc ls (.ref a :: .ref a :: st) w k n := by
  intro p e s m args below meth c H locs lsA D ad0 ad A cells slots hC hN hL hk hn
  exact lv_acmp_eq (rx := some (ad a)) (ry := some (ad a)) hC.1 hC.2.1 hd ht (fun _ => kk p e s m args below meth c H locs lsA D ad0 ad A cells slots hC hN hL hk hn) (fun z => absurd rfl z)
end Q1
abbrev daC (f : Nat → Value) : xC := .inl (.object "java/lang/Object", true, 10, f)
abbrev liC (m : Int32) (e : Nat) (s : Int32) : xC := .inr (3, true, [.int m, .ref e, .int s])
theorem AO_obj : ∀ U, xEnv U → va_AO "java/lang/Object" U := fun _ h => h.2.2.1
set_option maxHeartbeats 4000000 in
theorem j_grow2 (l : Launch) {w : xW} {b a : Nat} {md : Int32} {ow : Bool} {f : Nat → Value} (hb : w b = some (liC md 904 (nI 0))) (he : w 904 = some (.inl (.object "java/lang/Object", ow, 0, f))) (hab : a ≠ b) (hwa : w a = none) (ha9 : a < 900) (hnr : ∀ n c, w n = some c → xnr a c) : Cr l yJ2_grow_2 cJ2_grow_2 4 (some (.array (.object "java/lang/Object"))) 1 1 10 (fun n => n = a) [.ref b, .int (nI 1)] w (some (.ref a)) (upw (upw w a (daC fun _ => .null)) b (liC md a (nI 0))) := by
  refine Cr_start (ls := [some (.ref b), some (.int (nI 1)), none, none]) (by decide) rfl (Nat.le_of_ble_eq_true rfl) (fun n h1 h2 h => by have h : n = a := h; omega) ?_
  intro Q hQ
  refine V_aload_n dJ2_grow_2_0 rfl ?_
  refine V_getf (i := 1) k_J2 dJ2_grow_2_1 (by decide) q156 hb rfl ?_
  refine V_alen dJ2_grow_2_4 he ?_
  refine V_istore_n dJ2_grow_2_5 rfl (Nat.le_of_ble_eq_true rfl) (Nat.le_of_ble_eq_true rfl) ?_
  refine V_iload_n dJ2_grow_2_6 rfl ?_
  refine V_if_gt (tgt := 20) dJ2_grow_2_7 (by decide) (fun c7 => absurd c7 (nI_nlt (Nat.le_refl 0) (by decide))) (fun _ => ?_)
  refine V_aload_n dJ2_grow_2_10 rfl ?_
  refine V_getf (i := 1) k_J2 dJ2_grow_2_11 (by decide) q156 hb rfl ?_
  refine V_gets (v := .ref 904) (fun _ _ _ _ h => h.2.1) (fun _ h => by cases h; exact ⟨by decide, by decide⟩) dJ2_grow_2_14 q154 ?_
  refine V_acmpT (tgt := 45) dJ2_grow_2_17 (by decide) ?_
  refine V_aload_n dJ2_grow_2_45 rfl ?_
  refine V_bipush dJ2_grow_2_46 lb_10 ?_
  refine V_iload_n dJ2_grow_2_48 rfl ?_
  refine V_mmax dJ2_grow_2_49 q646 q479 q109 q480 ⟨Nat.le_of_ble_eq_true rfl, Nat.le_of_ble_eq_true rfl⟩ (Nat.le_of_ble_eq_true rfl) ?_
  rw [if_neg (show ¬ nI 10 < nI 1 from nI_nlt (by decide) (by decide))]
  refine V_anew (C := "java/lang/Object") (N := 10) (k' := 0) (n' := 0) a dJ2_grow_2_52 q647 AO_obj (by decide +kernel) (by decide +kernel) (by decide) hwa rfl hnr (nel_c (ne_r hab.symm) (nel_c ne_i (nel_c ne_i (nel_n nel_0)))) (nes_c (ne_r hab.symm) nes_0) ⟨by decide, by decide⟩ ?_
  refine V_dup_x1 dJ2_grow_2_55 rfl rfl ?_
  refine V_putf (i := 1) k_J2 dJ2_grow_2_56 (by decide) q156 rfl ((upw_ne hab.symm).trans hb) (Nat.le_of_ble_eq_true rfl) (fun _ => rfl) (fun _ => rfl) ?_
  exact V_areturn dJ2_grow_2_59 rfl (.inr ⟨_, rfl⟩) (.inr ⟨_, rfl⟩) hQ
set_option maxHeartbeats 4000000 in
theorem j_grow (l : Launch) {w : xW} {b a : Nat} {md : Int32} {ow : Bool} {f : Nat → Value} (hb : w b = some (liC md 904 (nI 0))) (he : w 904 = some (.inl (.object "java/lang/Object", ow, 0, f))) (hab : a ≠ b) (hwa : w a = none) (ha9 : a < 900) (hnr : ∀ n c, w n = some c → xnr a c) : Cr l yJ2_grow cJ2_grow 1 (some (.array (.object "java/lang/Object"))) 2 1 10 (fun n => n = a) [.ref b] w (some (.ref a)) (upw (upw w a (daC fun _ => .null)) b (liC md a (nI 0))) := by
  refine Cr_start (ls := [some (.ref b)]) (by decide) rfl (Nat.le_of_ble_eq_true rfl) (fun n h1 h2 h => by have h : n = a := h; omega) ?_
  intro Q hQ
  refine V_aload_n dJ2_grow_0 rfl ?_
  refine V_aload_n dJ2_grow_1 rfl ?_
  refine V_getf (i := 2) k_J2 dJ2_grow_2 (by decide) q157 hb rfl ?_
  refine V_iconst dJ2_grow_5 li_1 ?_
  refine V_iadd dJ2_grow_6 ?_
  show V l _ _ _ _ [.int (nI 1), .ref b] _ _ _
  refine Vr_v (k' := 0) (n' := 0) (j_grow2 l hb he hab hwa ha9 hnr) dJ2_grow_7 (lw_V q602 q604 qs4 q100 q605) hv_J2_grow_2 (by decide) hb cl_J2 rfl rfl (Nat.le_of_ble_eq_true rfl) (fun n h => h) (okl_c (ok_r (fun h => by first | exact hab h.symm | exact hab h | exact absurd h (by omega))) okl_0) oks_0 ⟨Nat.le_refl _, Nat.le_refl _⟩ ?_
  exact V_areturn dJ2_grow_10 rfl (.inr ⟨_, rfl⟩) (.inr ⟨_, rfl⟩) hQ
set_option maxHeartbeats 4000000 in
theorem j_addA (l : Launch) {w : xW} {b e v sz : Nat} {md : Int32} {f : Nat → Value} {C : String} (hb : w b = some (liC md e (nI sz))) (he : w e = some (daC f)) (heb : e ≠ b) (hs : sz < 10) (hv : xIs w v C) (hC : Cond.castable C "java/lang/Object" ∈ xNw) (hCO : C ≠ "java/lang/Object") : Cr l yJ2_add_2 cJ2_add_2 4 none 0 0 0 xF0 [.ref b, .ref v, .ref e, .int (nI sz)] w none (upw (upw w e (daC (xup f sz (.ref v)))) b (liC md e (nI (sz + 1)))) := by
  refine Cr_start (ls := [some (.ref b), some (.ref v), some (.ref e), some (.int (nI sz))]) (by decide) rfl (Nat.le_of_ble_eq_true rfl) (fun _ _ _ h => h) ?_
  intro Q hQ
  refine V_iload_n dJ2_add_2_0 rfl ?_
  refine V_aload_n dJ2_add_2_1 rfl ?_
  refine V_alen dJ2_add_2_2 he ?_
  refine V_icmp_ne (tgt := 11) dJ2_add_2_3 (by decide) (fun _ => ?_) (fun c3 => absurd c3 (fun z => absurd ((nI_eq (by omega) (by decide)).mp z) (by omega)))
  refine V_aload_n dJ2_add_2_11 rfl ?_
  refine V_iload_n dJ2_add_2_12 rfl ?_
  refine V_aload_n dJ2_add_2_13 rfl ?_
  refine V_aast (E := "java/lang/Object") dJ2_add_2_14 AO_obj he (vp_in_nI (show sz < 10 from hs) (by decide)) hv (.inr hC) (fun z => absurd z hCO) ?_
  rw [nI_clamp (by omega)]
  refine V_aload_n dJ2_add_2_15 rfl ?_
  refine V_iload_n dJ2_add_2_16 rfl ?_
  refine V_iconst dJ2_add_2_17 li_1 ?_
  refine V_iaddN dJ2_add_2_18 ?_
  refine V_putf (i := 2) k_J2 dJ2_add_2_19 (by decide) q157 rfl ((upw_ne (Ne.symm heb)).trans hb) (Nat.le_of_ble_eq_true rfl) (fun _ => rfl) (fun _ => rfl) ?_
  exact V_vreturn dJ2_add_2_22 rfl hQ
set_option maxHeartbeats 4000000 in
theorem j_addG (l : Launch) {w : xW} {b a v : Nat} {md : Int32} {ow : Bool} {f : Nat → Value} (hb : w b = some (liC md 904 (nI 0))) (he : w 904 = some (.inl (.object "java/lang/Object", ow, 0, f))) (hab : a ≠ b) (hwa : w a = none) (ha9 : a < 900) (hnr : ∀ n c, w n = some c → xnr a c) {C : String} (hv : xIs w v C) (hva : v ≠ a) (hvb : v ≠ b) (hC : Cond.castable C "java/lang/Object" ∈ xNw) (hCO : C ≠ "java/lang/Object") : Cr l yJ2_add_2 cJ2_add_2 4 none 3 1 10 (fun n => n = a) [.ref b, .ref v, .ref 904, .int (nI 0)] w none (upw (upw w a (daC (xup (fun _ => .null) 0 (.ref v)))) b (liC md a (nI 1))) := by
  refine Cr_start (ls := [some (.ref b), some (.ref v), some (.ref 904), some (.int (nI 0))]) (by decide) rfl (Nat.le_of_ble_eq_true rfl) (fun n h1 h2 h => by have h : n = a := h; omega) ?_
  intro Q hQ
  refine V_iload_n dJ2_add_2_0 rfl ?_
  refine V_aload_n dJ2_add_2_1 rfl ?_
  refine V_alen dJ2_add_2_2 he ?_
  refine V_icmp_ne (tgt := 11) dJ2_add_2_3 (by decide) (fun c3 => absurd rfl c3) (fun _ => ?_)
  refine V_aload_n dJ2_add_2_6 rfl ?_
  refine Vr_v (k' := 0) (n' := 0) (j_grow l hb he hab hwa ha9 hnr) dJ2_add_2_7 (lw_V q598 q600 qs3 q100 q601) hv_J2_grow (by decide) hb cl_J2 rfl rfl (Nat.le_of_ble_eq_true rfl) (fun n h => h) (okl_c (ok_r (fun h => by first | exact hab h.symm | exact hab h | exact absurd h (by omega))) (okl_c (ok_r hva) (okl_c (ok_r (fun h => by have h : 904 = a := h; omega)) (okl_c ok_i okl_0)))) oks_0 ⟨Nat.le_refl _, Nat.le_refl _⟩ ?_
  refine V_astore_n dJ2_add_2_10 rfl (Nat.le_of_ble_eq_true rfl) (Nat.le_of_ble_eq_true rfl) ?_
  refine V_aload_n dJ2_add_2_11 rfl ?_
  refine V_iload_n dJ2_add_2_12 rfl ?_
  refine V_aload_n dJ2_add_2_13 rfl ?_
  have hv2 : xIs (upw (upw w a (daC fun _ => .null)) b (liC md a (nI 0))) v C := by
    rcases hv with ⟨ci, bb, fs, r, h1, h2, h3⟩ | ⟨ty, N, g, h1, h2⟩
    · exact .inl ⟨ci, bb, fs, r, by rw [upw_ne hvb, upw_ne hva]; exact h1, h2, h3⟩
    · exact .inr ⟨ty, N, g, by rw [upw_ne hvb, upw_ne hva]; exact h1, h2⟩
  refine V_aast (E := "java/lang/Object") dJ2_add_2_14 AO_obj (N := 10) (f := fun _ => .null) (by rw [upw_ne hab, upw_self]) (vp_in_nI (show 0 < 10 by decide) (by decide)) hv2 (.inr hC) (fun z => absurd z hCO) ?_
  rw [nI_clamp (by decide), upw_comm (Ne.symm hab), upw_upw]
  refine V_aload_n dJ2_add_2_15 rfl ?_
  refine V_iload_n dJ2_add_2_16 rfl ?_
  refine V_iconst dJ2_add_2_17 li_1 ?_
  refine V_iaddN dJ2_add_2_18 ?_
  refine V_putf (i := 2) k_J2 dJ2_add_2_19 (by decide) q157 rfl upw_self (Nat.le_of_ble_eq_true rfl) (fun _ => rfl) (fun _ => rfl) ?_
  rw [upw_upw]
  exact V_vreturn dJ2_add_2_22 rfl hQ
set_option maxHeartbeats 4000000 in
theorem j_add1 (l : Launch) {w : xW} {b e v sz : Nat} {md : Int32} {f : Nat → Value} {C : String} (hb : w b = some (liC md e (nI sz))) (he : w e = some (daC f)) (heb : e ≠ b) (hs : sz < 10) (hv : xIs w v C) (hC : Cond.castable C "java/lang/Object" ∈ xNw) (hCO : C ≠ "java/lang/Object") (hvb : v ≠ b) : Cr l yJ2_add cJ2_add 2 (some .boolean) 1 0 0 xF0 [.ref b, .ref v] w (some (.int (nI 1))) (upw (upw w e (daC (xup f sz (.ref v)))) b (liC (md + nI 1) e (nI (sz + 1)))) := by
  refine Cr_start (ls := [some (.ref b), some (.ref v)]) (by decide) rfl (Nat.le_of_ble_eq_true rfl) (fun _ _ _ h => h) ?_
  intro Q hQ
  refine V_aload_n dJ2_add_0 rfl ?_
  refine V_dup dJ2_add_1 rfl ?_
  refine V_getfU (i := 0) k_J2 dJ2_add_2 (by decide) q159 q160 hb rfl ?_
  refine V_iconst dJ2_add_5 li_1 ?_
  refine V_iadd dJ2_add_6 ?_
  refine V_putfU (i := 0) k_J2 dJ2_add_7 (by decide) q159 q160 rfl hb (Nat.le_of_ble_eq_true rfl) (fun _ => rfl) (fun _ => rfl) ?_
  refine V_aload_n dJ2_add_10 rfl ?_
  refine V_aload_n dJ2_add_11 rfl ?_
  refine V_aload_n dJ2_add_12 rfl ?_
  refine V_getf (i := 1) k_J2 dJ2_add_13 (by decide) q156 upw_self rfl ?_
  refine V_aload_n dJ2_add_16 rfl ?_
  refine V_getf (i := 2) k_J2 dJ2_add_17 (by decide) q157 upw_self rfl ?_
  refine Vr_v (k' := 0) (n' := 0) (j_addA l (w := upw w b (liC (md + nI 1) e (nI sz))) (f := f) upw_self (by rw [upw_ne heb]; exact he) heb hs (by rcases hv with ⟨ci, bb, fs, r, h1, h2, h3⟩ | ⟨ty, N, g, h1, h2⟩; exact .inl ⟨ci, bb, fs, r, by rw [upw_ne hvb]; exact h1, h2, h3⟩; exact .inr ⟨ty, N, g, by rw [upw_ne hvb]; exact h1, h2⟩) hC hCO) dJ2_add_20 (lw_V q594 q596 qs2 q100 q597) hv_J2_add_2 (by decide) upw_self cl_J2 rfl rfl (Nat.le_of_ble_eq_true rfl) (fun _ h => h.elim) (fun _ _ => xok0) (fun _ _ => xok0) ⟨Nat.le_refl _, Nat.le_refl _⟩ ?_
  rw [upw_comm (Ne.symm heb), upw_upw]
  refine V_iconst dJ2_add_23 li_1 ?_
  exact V_zreturn dJ2_add_24 rfl (by first | exact bI_nr | exact nr_0 | exact nr_1 | rfl) hQ
set_option maxHeartbeats 4000000 in
theorem j_add2 (l : Launch) {w : xW} {b a v : Nat} {md : Int32} {ow : Bool} {f : Nat → Value} (hb : w b = some (liC md 904 (nI 0))) (he : w 904 = some (.inl (.object "java/lang/Object", ow, 0, f))) (hab : a ≠ b) (hwa : w a = none) (ha9 : a < 900) (hnr : ∀ n c, w n = some c → xnr a c) {C : String} (hv : xIs w v C) (hva : v ≠ a) (hvb : v ≠ b) (hC : Cond.castable C "java/lang/Object" ∈ xNw) (hCO : C ≠ "java/lang/Object") (hb9 : 904 ≠ b) : Cr l yJ2_add cJ2_add 2 (some .boolean) 4 1 10 (fun n => n = a) [.ref b, .ref v] w (some (.int (nI 1))) (upw (upw w a (daC (xup (fun _ => .null) 0 (.ref v)))) b (liC (md + nI 1) a (nI 1))) := by
  refine Cr_start (ls := [some (.ref b), some (.ref v)]) (by decide) rfl (Nat.le_of_ble_eq_true rfl) (fun n h1 h2 h => by have h : n = a := h; omega) ?_
  intro Q hQ
  refine V_aload_n dJ2_add_0 rfl ?_
  refine V_dup dJ2_add_1 rfl ?_
  refine V_getfU (i := 0) k_J2 dJ2_add_2 (by decide) q159 q160 hb rfl ?_
  refine V_iconst dJ2_add_5 li_1 ?_
  refine V_iadd dJ2_add_6 ?_
  refine V_putfU (i := 0) k_J2 dJ2_add_7 (by decide) q159 q160 rfl hb (Nat.le_of_ble_eq_true rfl) (fun _ => rfl) (fun _ => rfl) ?_
  refine V_aload_n dJ2_add_10 rfl ?_
  refine V_aload_n dJ2_add_11 rfl ?_
  refine V_aload_n dJ2_add_12 rfl ?_
  refine V_getf (i := 1) k_J2 dJ2_add_13 (by decide) q156 upw_self rfl ?_
  refine V_aload_n dJ2_add_16 rfl ?_
  refine V_getf (i := 2) k_J2 dJ2_add_17 (by decide) q157 upw_self rfl ?_
  refine Vr_v (k' := 0) (n' := 0) (j_addG l (w := upw w b (liC (md + nI 1) 904 (nI 0))) upw_self (by rw [upw_ne hb9]; exact he) hab (by rw [upw_ne hab]; exact hwa) ha9 (fun n c hc => by by_cases z : n = b; rw [z, upw_self] at hc; cases hc; exact xnr_o (nrc nrI (nrc (nrR (by omega)) (nrc nrI nr0))); rw [upw_ne z] at hc; exact hnr n c hc) (by rcases hv with ⟨ci, bb, fs, r, h1, h2, h3⟩ | ⟨ty, N, g, h1, h2⟩; exact .inl ⟨ci, bb, fs, r, by rw [upw_ne hvb]; exact h1, h2, h3⟩; exact .inr ⟨ty, N, g, by rw [upw_ne hvb]; exact h1, h2⟩) hva hvb hC hCO) dJ2_add_20 (lw_V q594 q596 qs2 q100 q597) hv_J2_add_2 (by decide) upw_self cl_J2 rfl rfl (Nat.le_of_ble_eq_true rfl) (fun n h => h) (okl_c (ok_r (fun h => by first | exact hab h.symm | exact hab h | exact absurd h (by omega))) (okl_c (ok_r hva) okl_0)) oks_0 ⟨Nat.le_refl _, Nat.le_refl _⟩ ?_
  rw [upw_comm (Ne.symm hab), upw_upw]
  refine V_iconst dJ2_add_23 li_1 ?_
  exact V_zreturn dJ2_add_24 rfl (by first | exact bI_nr | exact nr_0 | exact nr_1 | rfl) hQ
