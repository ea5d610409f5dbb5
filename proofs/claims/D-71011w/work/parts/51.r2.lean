/-! PromiseTailor's side: read, many, isPerson, isPromise -/
set_option maxRecDepth 100000
theorem Cn_imp {l : Launch} {y : MethodName} {ws : List Cond} {S S2 : xS} {as : List Value} {w : xW} (hM : Cn l y ws S as w) (h1 : S2.1 = S.1) (h2 : ∀ n, S.2.1 n → S2.2.1 n) (hQ : ∀ r w', S.2.2.1 r w' → S2.2.2.1 r w') (hX : ∀ E q w', S.2.2.2 E q w' → S2.2.2.2 E q w') : Cn l y ws S2 as w := by
  intro D ad sz
  have h := hM D ad sz
  rw [h1]
  intro p e ha hc hk s m args below hf happ hP hK
  obtain ⟨n, o, g1, g2, g3, g4⟩ := h p e ha hc hk s m args below hf happ hP hK
  refine ⟨n, o, g1, g2, g3, ?_⟩
  rcases g4 with ⟨⟨⟨r, w', ad', e1, e2, e3, e4⟩, e5⟩, L, e6, e7⟩ | ⟨q, e0, E, ce, L, ⟨⟨qn, w', ad', a1, a2, a3, a4⟩, a5⟩, b⟩
  · exact .inl ⟨⟨⟨r, w', ad', e1, hQ r w' e2, fun n hn => e3 n (fun z => hn (h2 n z)), e4⟩, e5⟩, L, e6, e7⟩
  · exact .inr ⟨q, e0, E, ce, L, ⟨⟨qn, w', ad', a1, hX E qn w' a2, fun n hn => a3 n (fun z => hn (h2 n z)), a4⟩, a5⟩, b⟩
theorem Cz_imp {l : Launch} {y : MethodName} {ws : List Cond} {d c s : Nat} {F F2 : Nat → Prop} {as : List Value} {X : xSt} {P P2 : Option Value → xSt → Prop} (hM : Cz l y ws d c s F as X P) (hF : ∀ n, F n → F2 n) (h : ∀ r X', P r X' → P2 r X') : Cz l y ws d c s F2 as X P2 :=
  Cn_imp hM rfl hF (fun r w' ⟨X', e, hP⟩ => ⟨X', e, h r X' hP⟩) (fun _ _ _ h => h)
theorem Cz_q {l : Launch} {y : MethodName} {cc : ByteArray} {nL : Nat} {ret : Option FieldType} {d : Nat} {F : Nat → Prop} {as : List Value} {X : xSt} {v : Option Value} {P : Option Value → xSt → Prop} (hM : Cq l y cc nL ret d as (wX X) v) (h : P v X) : Cz l y (ws_ y cc nL ret) d 0 0 F as X P :=
  Cn_imp hM rfl (fun _ h => h.elim) (fun r w' ⟨e1, e2⟩ => ⟨X, e2, by rw [e1]; exact h⟩) (fun _ _ _ h => h)
def rdn (t : Nat) (x : Int32) (Y : xSt) : xSt := mwr (mwr Y 48 t x) 47 t (nI 1)
theorem mwr_eq {X : xSt} {r i : Nat} {v : Int32} (h : X r i = v) : mwr X r i v = X := by rw [← h]; exact mwr_self X r i
/-- the room of a reading of text t, and its names -/
def rct (t : Nat) (X : xSt) : Nat := if X 47 t = nI 1 then 0 else 100
def rst (t : Nat) (X : xSt) : Nat := if X 47 t = nI 1 then 0 else 700
def gF (t : Nat) (X : xSt) (n : Nat) : Prop := X 47 t ≠ nI 1 ∧ RF t n
theorem gF_fF {t : Nat} {X : xSt} (ht : t < 2) : ∀ n, gF t X n → fF X n := by
  intro n h
  obtain ⟨h1, h2⟩ := h
  unfold RF at h2
  unfold fF
  have e : t = 0 ∨ t = 1 := by omega
  rcases e with rfl | rfl
  · rcases h2 with h2 | h2 | h2
    · exact .inl ⟨h1, .inl h2⟩
    · exact .inl ⟨h1, .inr h2⟩
    · exact .inr (.inr h2)
  · rcases h2 with h2 | h2 | h2
    · exact .inr (.inl ⟨h1, .inl h2⟩)
    · exact .inr (.inl ⟨h1, .inr h2⟩)
    · exact .inr (.inr h2)
theorem gF_lo {t : Nat} {X : xSt} (ht : t < 2) : ∀ n, 900 ≤ n → n < 950 → ¬ gF t X n := fun n h1 h2 h => RF_lo ht n h1 h2 h.2
theorem gF_ok {t : Nat} {X : xSt} {b : Nat} (h : b < 256) : ¬ gF t X b := fun z => by have := z.2; unfold RF at this; omega
set_option maxHeartbeats 4000000 in
theorem x_readf0 (l : Launch) {X : xSt} (hf : X 47 0 = nI 1) : Cq l yX1_read cX1_read 1 (some .int) 13 [.ref 64] (wX X) (some (.int (X 48 0))) := by
  refine Cq_start (ls := [some (.ref 64)]) (by decide) rfl (Nat.le_of_ble_eq_true rfl) ?_
  intro Q hQ
  refine V_aload_n dX1_read_0 rfl ?_
  refine V_getf (i := 4) k_X2 dX1_read_1 (by decide) q172 (wX_tx0 _) rfl ?_
  refine V_if_ne (tgt := 15) dX1_read_4 (by decide) (fun _ => ?_) (fun c4 => absurd c4 (by rw [hf]; exact nI1_0))
  refine V_aload_n dX1_read_15 rfl ?_
  refine V_iconst dX1_read_16 li_1 ?_
  refine Vt0_put_fresh dX1_read_17 q172 (by first | exact .inl rfl | exact .inr rfl) ?_
  rw [mwr_eq hf]
  refine V_aload_n dX1_read_20 rfl ?_
  refine V_getf (i := 5) k_X2 dX1_read_21 (by decide) q173 (wX_tx0 _) rfl ?_
  exact V_ireturn dX1_read_24 rfl hQ
set_option maxHeartbeats 4000000 in
theorem x_manyf0 (l : Launch) {X : xSt} (hf : X 47 0 = nI 1) (hL : LQ X 0) : Cq l yX1_many cX1_many 1 (some .int) 14 [.ref 64] (wX X) (some (.int (X 2 0))) := by
  refine Cq_start (ls := [some (.ref 64)]) (by decide) rfl (Nat.le_of_ble_eq_true rfl) ?_
  intro Q hQ
  refine V_aload_n dX1_many_0 rfl ?_
  refine Vq_u (x_readf0 l hf) dX1_many_1 (lw_U q664 q347 q349 q346 q96 q350) rfl hs_X1_read (by decide) (.inl ⟨_, _, _, _, (wX_tx0 _), cl_X2, rfl⟩) rfl (Nat.le_of_ble_eq_true rfl) ?_
  refine V_pop dX1_many_4 rfl ?_
  refine V_aload_n dX1_many_5 rfl ?_
  refine V_getf (i := 6) k_X2 dX1_many_6 (by decide) q174 (wX_tx0 _) rfl ?_
  refine V_size hL dX1_many_9 (lw_V q364 q365 q366 q100 q367) (by decide) (by decide) ?_
  rw [← hL.2.1]
  exact V_ireturn dX1_many_12 rfl hQ
set_option maxHeartbeats 4000000 in
theorem x_readu0 (l : Launch) {X : xSt} (hB : BX X) (hf : X 47 0 = nI 0) : Cz l yX1_read (ws_ yX1_read cX1_read 1 (some .int)) 13 100 700 (RF 0) [.ref 64] X (fun r X' => ∃ x, r = some (.int x) ∧ ∃ Y, FQ0 X x Y ∧ X' = rdn 0 x Y) := by
  refine Cz_start (ls := [some (.ref 64)]) (by decide) rfl (Nat.le_of_ble_eq_true rfl) (RF_lo (by decide)) ?_
  intro Q hQ
  have hT := bd_v hB.2.2.1 (by decide)
  refine V_aload_n dX1_read_0 rfl ?_
  refine V_getf (i := 4) k_X2 dX1_read_1 (by decide) q172 (wX_tx0 _) rfl ?_
  refine V_if_ne (tgt := 15) dX1_read_4 (by decide) (fun c4 => absurd (by rw [hf]; rfl) c4) (fun _ => ?_)
  refine V_aload_n dX1_read_7 rfl ?_
  refine V_aload_n dX1_read_8 rfl ?_
  refine V_callPW (k' := 0) (n' := 0) (C := "PromiseTailor$Town") (x_reads0 l hB.1 hT.1 hT.2 (fun j hj => hB.2.2.2.2.1 _ (by omega)) (hB.2.1 0 (by decide))) dX1_read_9 (lw_methW q354) q96 q351 q353 q319 rfl (nw q352 rfl) hs_X1_reads (xfit_D (by decide) (by decide) (by decide) (by decide)) (.inl ⟨_, _, _, _, wX_tx0 _, cl_X2, rfl⟩) rfl (Nat.le_of_ble_eq_true rfl) (fun _ z => z) (okl_c (ok_r (fun z => by have z : RF _ _ := z; unfold RF at z; omega)) okl_0) (oks_c (ok_r (fun z => by have z : RF _ _ := z; unfold RF at z; omega)) oks_0) (fun r w1 g1 => ?_) (fun _ _ _ h => h.elim)
  obtain ⟨Y, rfl, x, rfl, hFQ⟩ := g1
  refine Vt0_put_fault dX1_read_12 q173 ?_
  refine V_aload_n dX1_read_15 rfl ?_
  refine V_iconst dX1_read_16 li_1 ?_
  refine Vt0_put_fresh dX1_read_17 q172 (by first | exact .inl rfl | exact .inr rfl) ?_
  refine V_aload_n dX1_read_20 rfl ?_
  refine V_getf (i := 5) k_X2 dX1_read_21 (by decide) q173 (wX_tx0 _) rfl ?_
  rw [show mwr (mwr Y 48 0 x) 47 0 (nI 1) 48 0 = x from (mwr_r _ _ _ _ (by decide)).trans (mwr_s _ _ _ _)]
  exact V_ireturn dX1_read_24 rfl (hQ _ _ ⟨_, rfl, Y, hFQ, rfl⟩)
set_option maxHeartbeats 4000000 in
theorem x_manyu0 (l : Launch) {X : xSt} (hB : BX X) (hf : X 47 0 = nI 0) : Cz l yX1_many (ws_ yX1_many cX1_many 1 (some .int)) 14 100 700 (RF 0) [.ref 64] X (fun r X' => ∃ x, r = some (.int x) ∧ x = X' 2 0 ∧ ∃ x2 Y, FQ0 X x2 Y ∧ X' = rdn 0 x2 Y) := by
  refine Cz_start (ls := [some (.ref 64)]) (by decide) rfl (Nat.le_of_ble_eq_true rfl) (RF_lo (by decide)) ?_
  intro Q hQ
  refine V_aload_n dX1_many_0 rfl ?_
  refine Vz_uI (k' := 0) (n' := 0) (x_readu0 l hB hf) dX1_many_1 (lw_U q664 q347 q349 q346 q96 q350) rfl hs_X1_read (by decide) (.inl ⟨_, _, _, _, (wX_tx0 _), cl_X2, rfl⟩) rfl (Nat.le_of_ble_eq_true rfl) (fun _ z => z) (okl_c (ok_r (fun z => by have z : RF _ _ := z; unfold RF at z; omega)) okl_0) oks_0 ⟨Nat.le_refl _, Nat.le_refl _⟩ (fun x2 X1 h1 => ?_)
  obtain ⟨Y, hFQ, rfl⟩ := h1
  have hL : LQ (rdn 0 x2 Y) 0 := LQ_of ((mwr_R _ _ _ (by decide)).trans (mwr_R _ _ _ (by decide))) ((mwr_R _ _ _ (by decide)).trans (mwr_R _ _ _ (by decide))) hFQ.2.2.2.2.1
  refine V_pop dX1_many_4 rfl ?_
  refine V_aload_n dX1_many_5 rfl ?_
  refine V_getf (i := 6) k_X2 dX1_many_6 (by decide) q174 (wX_tx0 _) rfl ?_
  refine V_size (q := 0) hL dX1_many_9 (lw_V q364 q365 q366 q100 q367) (by decide) (by decide) ?_
  exact V_ireturn dX1_many_12 rfl (hQ _ _ ⟨_, rfl, hL.2.1.symm, x2, Y, hFQ, rfl⟩)
def WR0 (X Y : xSt) : Prop := (∀ r, r ≠ 2 → r ≠ 3 → r ≠ 4 → r ≠ 46 → r ≠ 47 → r ≠ 48 → r ≠ 49 → r ≠ 50 → r ≠ 54 → Y r = X r) ∧ (∀ r i, i ≠ 0 → (r = 46 ∨ r = 47 ∨ r = 48 ∨ r = 49 ∨ r = 50 ∨ r = 54) → Y r i = X r i) ∧ (X 47 0 = nI 1 → Y = X)
theorem WR0.rf (X : xSt) : WR0 X X := ⟨fun _ _ _ _ _ _ _ _ _ _ => rfl, fun _ _ _ _ => rfl, fun _ => rfl⟩
theorem rdn0_wr {X Y : xSt} {x : Int32} (h : FR0 X Y) (hf : X 47 0 = nI 0) : WR0 X (rdn 0 x Y) := by
  refine ⟨fun r a0 a1 a2 a3 a4 a5 a6 a7 a8 => ?_, fun r i hi hr => ?_, fun z => by rw [hf] at z; exact absurd z (by decide +kernel)⟩
  · unfold rdn
    rw [mwr_R _ _ _ (by omega), mwr_R _ _ _ (by omega)]
    exact h.1 r a0 a1 a2 a3 a6 a7 a8
  · unfold rdn mwr
    rw [if_neg (fun z => hi z.2), if_neg (fun z => hi z.2)]
    by_cases e : r = 47 ∨ r = 48
    · exact congrFun (h.1 r (by omega) (by omega) (by omega) (by omega) (by omega) (by omega) (by omega)) i
    · exact h.2 r i hi (by omega)
theorem XT_rd0 {T X Y : xSt} {x : Int32} (h : XT T X) (hf : X 47 0 = nI 0) (hq : FQ0 X x Y) : XT T (rdn 0 x Y) := by
  obtain ⟨hB, hC, hK, hO, hP, hT, h0, h1, hl0, hl1⟩ := h
  have hfr := hq.2.2.2.2.2.2
  have hw : WR0 X (rdn 0 x Y) := rdn0_wr hfr hf
  have rr : ∀ r, r ≠ 2 → r ≠ 3 → r ≠ 4 → r ≠ 46 → r ≠ 47 → r ≠ 48 → r ≠ 49 → r ≠ 50 → r ≠ 54 → rdn 0 x Y r = X r := hw.1
  have hp : pr0 T := by
    rcases h0 with z | z
    · rw [hf] at z; exact absurd z.1 (by decide +kernel)
    · exact z.2
  have e0 : X 0 = T 0 := hC 0 (by omega)
  have e1 : X 1 = T 1 := hC 1 (by omega)
  obtain ⟨g1, g2, g3⟩ := partsF0_e e0 e1
  have q2 : rdn 0 x Y 2 0 = T 2 0 := by
    rw [show rdn 0 x Y 2 0 = Y 2 0 from (mwr_r _ _ _ _ (by decide)).trans (mwr_r _ _ _ _ (by decide)), hq.2.1, g2, hp.1]
  have hcY : cnt Y 0 = vN (T 2 0) := by
    unfold cnt
    rw [show szr 0 = 2 from rfl, hq.2.1, g2, hp.1]
  have hsy : sy0 T (rdn 0 x Y) := by
    refine ⟨q2, fun k hk => ?_⟩
    have a := hq.2.2.1 k (by omega)
    have b := g3 k (by rw [hp.1]; exact hk)
    have c := hp.2 k hk
    exact ⟨(((mwr_r _ _ _ _ (by decide)).trans (mwr_r _ _ _ _ (by decide))).trans a.1).trans (b.1.trans c.1), (((mwr_r _ _ _ _ (by decide)).trans (mwr_r _ _ _ _ (by decide))).trans a.2).trans (b.2.trans c.2)⟩
  have hsz : ∀ q, q < 6 → q ≠ 0 → rdn 0 x Y (szr q) = X (szr q) := fun q hq ht => by
    match q, hq, ht with
    | 0, _, ht => exact absurd rfl ht
    | 1, _, _ => exact rr (szr 1) (by decide) (by decide) (by decide) (by decide) (by decide) (by decide) (by decide) (by decide) (by decide)
    | 2, _, _ => exact rr (szr 2) (by decide) (by decide) (by decide) (by decide) (by decide) (by decide) (by decide) (by decide) (by decide)
    | 3, _, _ => exact rr (szr 3) (by decide) (by decide) (by decide) (by decide) (by decide) (by decide) (by decide) (by decide) (by decide)
    | 4, _, _ => exact rr (szr 4) (by decide) (by decide) (by decide) (by decide) (by decide) (by decide) (by decide) (by decide) (by decide)
    | 5, _, _ => exact rr (szr 5) (by decide) (by decide) (by decide) (by decide) (by decide) (by decide) (by decide) (by decide) (by decide)
    | q + 6, hq, _ => exact absurd hq (by omega)
  have hcb : CB (rdn 0 x Y) := by
    have hcy := hfr.cb hB.1 (by have := hq.2.2.2.2.2.1; omega)
    have e : ∀ q, cnt (rdn 0 x Y) q = cnt Y q := fun q => by
      have := @szr_b q
      unfold cnt rdn
      rw [mwr_r _ _ _ _ (by omega), mwr_r _ _ _ _ (by omega)]
    unfold CB
    simp only [e]
    exact hcy
  have hLt : LQ (rdn 0 x Y) 0 := LQ_of ((mwr_R _ _ _ (by decide)).trans (mwr_R _ _ _ (by decide))) ((mwr_R _ _ _ (by decide)).trans (mwr_R _ _ _ (by decide))) hq.2.2.2.2.1
  have hsn : std (rdn 0 x Y) 0 = cnt (rdn 0 x Y) 0 := by
    have e1 : std (rdn 0 x Y) 0 = std Y 0 := by unfold std rdn; rw [mwr_r _ _ _ _ (by decide), mwr_r _ _ _ _ (by decide)]
    have e2 : cnt (rdn 0 x Y) 0 = cnt Y 0 := by unfold cnt rdn; rw [mwr_r _ _ _ _ (by decide), mwr_r _ _ _ _ (by decide)]
    rw [e1, e2]
    exact hq.2.2.2.1
  have r0 : rdn 0 x Y 0 = X 0 := rr 0 (by decide) (by decide) (by decide) (by decide) (by decide) (by decide) (by decide) (by decide) (by decide)
  have r1 : rdn 0 x Y 1 = X 1 := rr 1 (by decide) (by decide) (by decide) (by decide) (by decide) (by decide) (by decide) (by decide) (by decide)
  have hbt : bd (rdn 0 x Y 2 0) 8 := by rw [q2]; exact hP.1
  have f1 : rdn 0 x Y 47 0 = nI 1 := mwr_s _ _ _ _
  have f2 : ∀ r, r = 47 ∨ r = 48 → rdn 0 x Y r 1 = X r 1 := fun r hr => hw.2.1 r 1 (by decide) (by omega)
  refine ⟨⟨hcb, fun q hq6 => ?_, by rw [r0]; exact hB.2.2.1, by rw [r0]; exact hB.2.2.2.1, fun i hi => by rw [r1]; exact hB.2.2.2.2.1 i hi, .inr f1, by rw [f2 47 (.inl rfl)]; exact hB.2.2.2.2.2.2.1, fun q hq6 hq2 => ?_, hbt, by rw [rr 5 (by decide) (by decide) (by decide) (by decide) (by decide) (by decide) (by decide) (by decide) (by decide)]; exact hB.2.2.2.2.2.2.2.2.2.1, by rw [rr 10 (by decide) (by decide) (by decide) (by decide) (by decide) (by decide) (by decide) (by decide) (by decide)]; exact hB.2.2.2.2.2.2.2.2.2.2.1, by rw [rr 13 (by decide) (by decide) (by decide) (by decide) (by decide) (by decide) (by decide) (by decide) (by decide)]; exact hB.2.2.2.2.2.2.2.2.2.2.2.1, by rw [rr 17 (by decide) (by decide) (by decide) (by decide) (by decide) (by decide) (by decide) (by decide) (by decide)]; exact hB.2.2.2.2.2.2.2.2.2.2.2.2.1, by rw [rr 34 (by decide) (by decide) (by decide) (by decide) (by decide) (by decide) (by decide) (by decide) (by decide)]; exact hB.2.2.2.2.2.2.2.2.2.2.2.2.2⟩, fun j hj => ?_, ?_, ?_, hP, hT, .inl ⟨f1, hsy⟩, ?_, ?_, ?_⟩
  · by_cases e : q = 0
    · rw [e]; exact hLt
    · exact LQ_ofp (hsz q hq6 e) (hw.2.1 50 q e (by omega)) (hB.2.1 q hq6)
  · by_cases e : q = 0
    · rw [e]; exact hsn
    · have := hB.2.2.2.2.2.2.2.1 q hq6 hq2
      unfold std cnt at *
      rw [hsz q hq6 e, hw.2.1 54 q e (by omega)]
      exact this
  · rw [rr j (by omega) (by omega) (by omega) (by omega) (by omega) (by omega) (by omega) (by omega) (by omega)]
    exact hC j hj
  · exact XK_of (rr 10 (by decide) (by decide) (by decide) (by decide) (by decide) (by decide) (by decide) (by decide) (by decide)) (rr 11 (by decide) (by decide) (by decide) (by decide) (by decide) (by decide) (by decide) (by decide) (by decide)) (rr 12 (by decide) (by decide) (by decide) (by decide) (by decide) (by decide) (by decide) (by decide) (by decide)) (rr 25 (by decide) (by decide) (by decide) (by decide) (by decide) (by decide) (by decide) (by decide) (by decide)) (rr 26 (by decide) (by decide) (by decide) (by decide) (by decide) (by decide) (by decide) (by decide) (by decide)) (rr 45 (by decide) (by decide) (by decide) (by decide) (by decide) (by decide) (by decide) (by decide) (by decide)) (rr 51 (by decide) (by decide) (by decide) (by decide) (by decide) (by decide) (by decide) (by decide) (by decide)) (rr 53 (by decide) (by decide) (by decide) (by decide) (by decide) (by decide) (by decide) (by decide) (by decide)) (hw.2.1 54 2 (by decide) (by omega)) hK
  · exact XO_of (rr 45 (by decide) (by decide) (by decide) (by decide) (by decide) (by decide) (by decide) (by decide) (by decide)) hO
  · rw [f2 47 (.inl rfl)]
    rcases h1 with z | z
    · refine .inl ⟨z.1, ?_⟩
      unfold sy1
      rw [rr 5 (by decide) (by decide) (by decide) (by decide) (by decide) (by decide) (by decide) (by decide) (by decide), rr 6 (by decide) (by decide) (by decide) (by decide) (by decide) (by decide) (by decide) (by decide) (by decide), rr 7 (by decide) (by decide) (by decide) (by decide) (by decide) (by decide) (by decide) (by decide) (by decide), rr 8 (by decide) (by decide) (by decide) (by decide) (by decide) (by decide) (by decide) (by decide) (by decide), rr 9 (by decide) (by decide) (by decide) (by decide) (by decide) (by decide) (by decide) (by decide) (by decide)]
      exact z.2
    · exact .inr z
  · intro _
    rw [show rdn 0 x Y 48 0 = x from (mwr_r _ _ _ _ (by decide)).trans (mwr_s _ _ _ _)]
    exact hq.1.trans (partsF0_e r0 r1).1.symm
  · exact fl1_c r0 r1 (f2 47 (.inl rfl)) (f2 48 (.inr rfl)) hl1
set_option maxHeartbeats 4000000 in
theorem x_readf1 (l : Launch) {X : xSt} (hf : X 47 1 = nI 1) : Cq l yX1_read cX1_read 1 (some .int) 13 [.ref 65] (wX X) (some (.int (X 48 1))) := by
  refine Cq_start (ls := [some (.ref 65)]) (by decide) rfl (Nat.le_of_ble_eq_true rfl) ?_
  intro Q hQ
  refine V_aload_n dX1_read_0 rfl ?_
  refine V_getf (i := 4) k_X3 dX1_read_1 (by decide) q172 (wX_tx1 _) rfl ?_
  refine V_if_ne (tgt := 15) dX1_read_4 (by decide) (fun _ => ?_) (fun c4 => absurd c4 (by rw [hf]; exact nI1_0))
  refine V_aload_n dX1_read_15 rfl ?_
  refine V_iconst dX1_read_16 li_1 ?_
  refine Vt1_put_fresh dX1_read_17 q172 (by first | exact .inl rfl | exact .inr rfl) ?_
  rw [mwr_eq hf]
  refine V_aload_n dX1_read_20 rfl ?_
  refine V_getf (i := 5) k_X3 dX1_read_21 (by decide) q173 (wX_tx1 _) rfl ?_
  exact V_ireturn dX1_read_24 rfl hQ
set_option maxHeartbeats 4000000 in
theorem x_manyf1 (l : Launch) {X : xSt} (hf : X 47 1 = nI 1) (hL : LQ X 1) : Cq l yX1_many cX1_many 1 (some .int) 14 [.ref 65] (wX X) (some (.int (X 5 0))) := by
  refine Cq_start (ls := [some (.ref 65)]) (by decide) rfl (Nat.le_of_ble_eq_true rfl) ?_
  intro Q hQ
  refine V_aload_n dX1_many_0 rfl ?_
  refine Vq_u (x_readf1 l hf) dX1_many_1 (lw_U q664 q347 q348 q346 q96 q350) rfl hs_X1_read (by decide) (.inl ⟨_, _, _, _, (wX_tx1 _), cl_X3, rfl⟩) rfl (Nat.le_of_ble_eq_true rfl) ?_
  refine V_pop dX1_many_4 rfl ?_
  refine V_aload_n dX1_many_5 rfl ?_
  refine V_getf (i := 6) k_X3 dX1_many_6 (by decide) q174 (wX_tx1 _) rfl ?_
  refine V_size hL dX1_many_9 (lw_V q364 q365 q366 q100 q367) (by decide) (by decide) ?_
  rw [← hL.2.1]
  exact V_ireturn dX1_many_12 rfl hQ
set_option maxHeartbeats 4000000 in
theorem x_readu1 (l : Launch) {X : xSt} (hB : BX X) (hf : X 47 1 = nI 0) : Cz l yX1_read (ws_ yX1_read cX1_read 1 (some .int)) 13 100 700 (RF 1) [.ref 65] X (fun r X' => ∃ x, r = some (.int x) ∧ ∃ Y, FQ1 X x Y ∧ X' = rdn 1 x Y) := by
  refine Cz_start (ls := [some (.ref 65)]) (by decide) rfl (Nat.le_of_ble_eq_true rfl) (RF_lo (by decide)) ?_
  intro Q hQ
  have hT := bd_v hB.2.2.2.1 (by decide)
  refine V_aload_n dX1_read_0 rfl ?_
  refine V_getf (i := 4) k_X3 dX1_read_1 (by decide) q172 (wX_tx1 _) rfl ?_
  refine V_if_ne (tgt := 15) dX1_read_4 (by decide) (fun c4 => absurd (by rw [hf]; rfl) c4) (fun _ => ?_)
  refine V_aload_n dX1_read_7 rfl ?_
  refine V_aload_n dX1_read_8 rfl ?_
  refine V_callPW (k' := 0) (n' := 0) (C := "PromiseTailor$Book") (x_reads1 l hB.1 hT.1 hT.2 (fun j hj => hB.2.2.2.2.1 _ (by omega)) (hB.2.1 1 (by decide))) dX1_read_9 (lw_methW q354) q96 q351 q353 q318 rfl (nw q352 rfl) hs_X1_reads (xfit_D (by decide) (by decide) (by decide) (by decide)) (.inl ⟨_, _, _, _, wX_tx1 _, cl_X3, rfl⟩) rfl (Nat.le_of_ble_eq_true rfl) (fun _ z => z) (okl_c (ok_r (fun z => by have z : RF _ _ := z; unfold RF at z; omega)) okl_0) (oks_c (ok_r (fun z => by have z : RF _ _ := z; unfold RF at z; omega)) oks_0) (fun r w1 g1 => ?_) (fun _ _ _ h => h.elim)
  obtain ⟨Y, rfl, x, rfl, hFQ⟩ := g1
  refine Vt1_put_fault dX1_read_12 q173 ?_
  refine V_aload_n dX1_read_15 rfl ?_
  refine V_iconst dX1_read_16 li_1 ?_
  refine Vt1_put_fresh dX1_read_17 q172 (by first | exact .inl rfl | exact .inr rfl) ?_
  refine V_aload_n dX1_read_20 rfl ?_
  refine V_getf (i := 5) k_X3 dX1_read_21 (by decide) q173 (wX_tx1 _) rfl ?_
  rw [show mwr (mwr Y 48 1 x) 47 1 (nI 1) 48 1 = x from (mwr_r _ _ _ _ (by decide)).trans (mwr_s _ _ _ _)]
  exact V_ireturn dX1_read_24 rfl (hQ _ _ ⟨_, rfl, Y, hFQ, rfl⟩)
set_option maxHeartbeats 4000000 in
theorem x_manyu1 (l : Launch) {X : xSt} (hB : BX X) (hf : X 47 1 = nI 0) : Cz l yX1_many (ws_ yX1_many cX1_many 1 (some .int)) 14 100 700 (RF 1) [.ref 65] X (fun r X' => ∃ x, r = some (.int x) ∧ x = X' 5 0 ∧ ∃ x2 Y, FQ1 X x2 Y ∧ X' = rdn 1 x2 Y) := by
  refine Cz_start (ls := [some (.ref 65)]) (by decide) rfl (Nat.le_of_ble_eq_true rfl) (RF_lo (by decide)) ?_
  intro Q hQ
  refine V_aload_n dX1_many_0 rfl ?_
  refine Vz_uI (k' := 0) (n' := 0) (x_readu1 l hB hf) dX1_many_1 (lw_U q664 q347 q348 q346 q96 q350) rfl hs_X1_read (by decide) (.inl ⟨_, _, _, _, (wX_tx1 _), cl_X3, rfl⟩) rfl (Nat.le_of_ble_eq_true rfl) (fun _ z => z) (okl_c (ok_r (fun z => by have z : RF _ _ := z; unfold RF at z; omega)) okl_0) oks_0 ⟨Nat.le_refl _, Nat.le_refl _⟩ (fun x2 X1 h1 => ?_)
  obtain ⟨Y, hFQ, rfl⟩ := h1
  have hL : LQ (rdn 1 x2 Y) 1 := LQ_of ((mwr_R _ _ _ (by decide)).trans (mwr_R _ _ _ (by decide))) ((mwr_R _ _ _ (by decide)).trans (mwr_R _ _ _ (by decide))) hFQ.2.2.2.2.1
  refine V_pop dX1_many_4 rfl ?_
  refine V_aload_n dX1_many_5 rfl ?_
  refine V_getf (i := 6) k_X3 dX1_many_6 (by decide) q174 (wX_tx1 _) rfl ?_
  refine V_size (q := 1) hL dX1_many_9 (lw_V q364 q365 q366 q100 q367) (by decide) (by decide) ?_
  exact V_ireturn dX1_many_12 rfl (hQ _ _ ⟨_, rfl, hL.2.1.symm, x2, Y, hFQ, rfl⟩)
def WR1 (X Y : xSt) : Prop := (∀ r, r ≠ 5 → r ≠ 6 → r ≠ 7 → r ≠ 8 → r ≠ 9 → r ≠ 46 → r ≠ 47 → r ≠ 48 → r ≠ 49 → r ≠ 50 → r ≠ 54 → Y r = X r) ∧ (∀ r i, i ≠ 1 → (r = 46 ∨ r = 47 ∨ r = 48 ∨ r = 49 ∨ r = 50 ∨ r = 54) → Y r i = X r i) ∧ (X 47 1 = nI 1 → Y = X)
theorem WR1.rf (X : xSt) : WR1 X X := ⟨fun _ _ _ _ _ _ _ _ _ _ _ _ => rfl, fun _ _ _ _ => rfl, fun _ => rfl⟩
theorem rdn1_wr {X Y : xSt} {x : Int32} (h : FR1 X Y) (hf : X 47 1 = nI 0) : WR1 X (rdn 1 x Y) := by
  refine ⟨fun r a0 a1 a2 a3 a4 a5 a6 a7 a8 a9 a10 => ?_, fun r i hi hr => ?_, fun z => by rw [hf] at z; exact absurd z (by decide +kernel)⟩
  · unfold rdn
    rw [mwr_R _ _ _ (by omega), mwr_R _ _ _ (by omega)]
    exact h.1 r a0 a1 a2 a3 a4 a5 a8 a9 a10
  · unfold rdn mwr
    rw [if_neg (fun z => hi z.2), if_neg (fun z => hi z.2)]
    by_cases e : r = 47 ∨ r = 48
    · exact congrFun (h.1 r (by omega) (by omega) (by omega) (by omega) (by omega) (by omega) (by omega) (by omega) (by omega)) i
    · exact h.2 r i hi (by omega)
theorem XT_rd1 {T X Y : xSt} {x : Int32} (h : XT T X) (hf : X 47 1 = nI 0) (hq : FQ1 X x Y) : XT T (rdn 1 x Y) := by
  obtain ⟨hB, hC, hK, hO, hP, hT, h0, h1, hl0, hl1⟩ := h
  have hfr := hq.2.2.2.2.2.2
  have hw : WR1 X (rdn 1 x Y) := rdn1_wr hfr hf
  have rr : ∀ r, r ≠ 5 → r ≠ 6 → r ≠ 7 → r ≠ 8 → r ≠ 9 → r ≠ 46 → r ≠ 47 → r ≠ 48 → r ≠ 49 → r ≠ 50 → r ≠ 54 → rdn 1 x Y r = X r := hw.1
  have hp : pr1 T := by
    rcases h1 with z | z
    · rw [hf] at z; exact absurd z.1 (by decide +kernel)
    · exact z.2
  have e0 : X 0 = T 0 := hC 0 (by omega)
  have e1 : X 1 = T 1 := hC 1 (by omega)
  obtain ⟨g1, g2, g3⟩ := partsF1_e e0 e1
  have q2 : rdn 1 x Y 5 0 = T 5 0 := by
    rw [show rdn 1 x Y 5 0 = Y 5 0 from (mwr_r _ _ _ _ (by decide)).trans (mwr_r _ _ _ _ (by decide)), hq.2.1, g2, hp.1]
  have hcY : cnt Y 1 = vN (T 5 0) := by
    unfold cnt
    rw [show szr 1 = 5 from rfl, hq.2.1, g2, hp.1]
  have hsy : sy1 T (rdn 1 x Y) := by
    refine ⟨q2, fun k hk => ?_⟩
    have a := hq.2.2.1 k (by omega)
    have b := g3 k (by rw [hp.1]; exact hk)
    have c := hp.2 k hk
    exact ⟨(((mwr_r _ _ _ _ (by decide)).trans (mwr_r _ _ _ _ (by decide))).trans a.1).trans (b.1.trans c.1), (((mwr_r _ _ _ _ (by decide)).trans (mwr_r _ _ _ _ (by decide))).trans a.2.1).trans (b.2.1.trans c.2.1), (((mwr_r _ _ _ _ (by decide)).trans (mwr_r _ _ _ _ (by decide))).trans a.2.2.1).trans (b.2.2.1.trans c.2.2.1), (((mwr_r _ _ _ _ (by decide)).trans (mwr_r _ _ _ _ (by decide))).trans a.2.2.2).trans (b.2.2.2.trans c.2.2.2)⟩
  have hsz : ∀ q, q < 6 → q ≠ 1 → rdn 1 x Y (szr q) = X (szr q) := fun q hq ht => by
    match q, hq, ht with
    | 0, _, _ => exact rr (szr 0) (by decide) (by decide) (by decide) (by decide) (by decide) (by decide) (by decide) (by decide) (by decide) (by decide) (by decide)
    | 1, _, ht => exact absurd rfl ht
    | 2, _, _ => exact rr (szr 2) (by decide) (by decide) (by decide) (by decide) (by decide) (by decide) (by decide) (by decide) (by decide) (by decide) (by decide)
    | 3, _, _ => exact rr (szr 3) (by decide) (by decide) (by decide) (by decide) (by decide) (by decide) (by decide) (by decide) (by decide) (by decide) (by decide)
    | 4, _, _ => exact rr (szr 4) (by decide) (by decide) (by decide) (by decide) (by decide) (by decide) (by decide) (by decide) (by decide) (by decide) (by decide)
    | 5, _, _ => exact rr (szr 5) (by decide) (by decide) (by decide) (by decide) (by decide) (by decide) (by decide) (by decide) (by decide) (by decide) (by decide)
    | q + 6, hq, _ => exact absurd hq (by omega)
  have hcb : CB (rdn 1 x Y) := by
    have hcy := hfr.cb hB.1 (by have := hq.2.2.2.2.2.1; omega)
    have e : ∀ q, cnt (rdn 1 x Y) q = cnt Y q := fun q => by
      have := @szr_b q
      unfold cnt rdn
      rw [mwr_r _ _ _ _ (by omega), mwr_r _ _ _ _ (by omega)]
    unfold CB
    simp only [e]
    exact hcy
  have hLt : LQ (rdn 1 x Y) 1 := LQ_of ((mwr_R _ _ _ (by decide)).trans (mwr_R _ _ _ (by decide))) ((mwr_R _ _ _ (by decide)).trans (mwr_R _ _ _ (by decide))) hq.2.2.2.2.1
  have hsn : std (rdn 1 x Y) 1 = cnt (rdn 1 x Y) 1 := by
    have e1 : std (rdn 1 x Y) 1 = std Y 1 := by unfold std rdn; rw [mwr_r _ _ _ _ (by decide), mwr_r _ _ _ _ (by decide)]
    have e2 : cnt (rdn 1 x Y) 1 = cnt Y 1 := by unfold cnt rdn; rw [mwr_r _ _ _ _ (by decide), mwr_r _ _ _ _ (by decide)]
    rw [e1, e2]
    exact hq.2.2.2.1
  have r0 : rdn 1 x Y 0 = X 0 := rr 0 (by decide) (by decide) (by decide) (by decide) (by decide) (by decide) (by decide) (by decide) (by decide) (by decide) (by decide)
  have r1 : rdn 1 x Y 1 = X 1 := rr 1 (by decide) (by decide) (by decide) (by decide) (by decide) (by decide) (by decide) (by decide) (by decide) (by decide) (by decide)
  have hbt : bd (rdn 1 x Y 5 0) 10 := by rw [q2]; exact hP.2.1
  have f1 : rdn 1 x Y 47 1 = nI 1 := mwr_s _ _ _ _
  have f2 : ∀ r, r = 47 ∨ r = 48 → rdn 1 x Y r 0 = X r 0 := fun r hr => hw.2.1 r 0 (by decide) (by omega)
  refine ⟨⟨hcb, fun q hq6 => ?_, by rw [r0]; exact hB.2.2.1, by rw [r0]; exact hB.2.2.2.1, fun i hi => by rw [r1]; exact hB.2.2.2.2.1 i hi, by rw [f2 47 (.inl rfl)]; exact hB.2.2.2.2.2.1, .inr f1, fun q hq6 hq2 => ?_, by rw [rr 2 (by decide) (by decide) (by decide) (by decide) (by decide) (by decide) (by decide) (by decide) (by decide) (by decide) (by decide)]; exact hB.2.2.2.2.2.2.2.2.1, hbt, by rw [rr 10 (by decide) (by decide) (by decide) (by decide) (by decide) (by decide) (by decide) (by decide) (by decide) (by decide) (by decide)]; exact hB.2.2.2.2.2.2.2.2.2.2.1, by rw [rr 13 (by decide) (by decide) (by decide) (by decide) (by decide) (by decide) (by decide) (by decide) (by decide) (by decide) (by decide)]; exact hB.2.2.2.2.2.2.2.2.2.2.2.1, by rw [rr 17 (by decide) (by decide) (by decide) (by decide) (by decide) (by decide) (by decide) (by decide) (by decide) (by decide) (by decide)]; exact hB.2.2.2.2.2.2.2.2.2.2.2.2.1, by rw [rr 34 (by decide) (by decide) (by decide) (by decide) (by decide) (by decide) (by decide) (by decide) (by decide) (by decide) (by decide)]; exact hB.2.2.2.2.2.2.2.2.2.2.2.2.2⟩, fun j hj => ?_, ?_, ?_, hP, hT, ?_, .inl ⟨f1, hsy⟩, ?_, ?_⟩
  · by_cases e : q = 1
    · rw [e]; exact hLt
    · exact LQ_ofp (hsz q hq6 e) (hw.2.1 50 q e (by omega)) (hB.2.1 q hq6)
  · by_cases e : q = 1
    · rw [e]; exact hsn
    · have := hB.2.2.2.2.2.2.2.1 q hq6 hq2
      unfold std cnt at *
      rw [hsz q hq6 e, hw.2.1 54 q e (by omega)]
      exact this
  · rw [rr j (by omega) (by omega) (by omega) (by omega) (by omega) (by omega) (by omega) (by omega) (by omega) (by omega) (by omega)]
    exact hC j hj
  · exact XK_of (rr 10 (by decide) (by decide) (by decide) (by decide) (by decide) (by decide) (by decide) (by decide) (by decide) (by decide) (by decide)) (rr 11 (by decide) (by decide) (by decide) (by decide) (by decide) (by decide) (by decide) (by decide) (by decide) (by decide) (by decide)) (rr 12 (by decide) (by decide) (by decide) (by decide) (by decide) (by decide) (by decide) (by decide) (by decide) (by decide) (by decide)) (rr 25 (by decide) (by decide) (by decide) (by decide) (by decide) (by decide) (by decide) (by decide) (by decide) (by decide) (by decide)) (rr 26 (by decide) (by decide) (by decide) (by decide) (by decide) (by decide) (by decide) (by decide) (by decide) (by decide) (by decide)) (rr 45 (by decide) (by decide) (by decide) (by decide) (by decide) (by decide) (by decide) (by decide) (by decide) (by decide) (by decide)) (rr 51 (by decide) (by decide) (by decide) (by decide) (by decide) (by decide) (by decide) (by decide) (by decide) (by decide) (by decide)) (rr 53 (by decide) (by decide) (by decide) (by decide) (by decide) (by decide) (by decide) (by decide) (by decide) (by decide) (by decide)) (hw.2.1 54 2 (by decide) (by omega)) hK
  · exact XO_of (rr 45 (by decide) (by decide) (by decide) (by decide) (by decide) (by decide) (by decide) (by decide) (by decide) (by decide) (by decide)) hO
  · rw [f2 47 (.inl rfl)]
    rcases h0 with z | z
    · refine .inl ⟨z.1, ?_⟩
      unfold sy0
      rw [rr 2 (by decide) (by decide) (by decide) (by decide) (by decide) (by decide) (by decide) (by decide) (by decide) (by decide) (by decide), rr 3 (by decide) (by decide) (by decide) (by decide) (by decide) (by decide) (by decide) (by decide) (by decide) (by decide) (by decide), rr 4 (by decide) (by decide) (by decide) (by decide) (by decide) (by decide) (by decide) (by decide) (by decide) (by decide) (by decide)]
      exact z.2
    · exact .inr z
  · exact fl0_c r0 r1 (f2 47 (.inl rfl)) (f2 48 (.inr rfl)) hl0
  · intro _
    rw [show rdn 1 x Y 48 1 = x from (mwr_r _ _ _ _ (by decide)).trans (mwr_s _ _ _ _)]
    exact hq.1.trans (partsF1_e r0 r1).1.symm
