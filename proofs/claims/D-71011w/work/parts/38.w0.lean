/-! PromiseTailor's WORLD, out of numbers X : region, place. Names: 64 b + d, b the block. Core regions are the model's; further ones: 45 oddDay, oddPromise, oddPerson, oddGreat, drawn; 46 at, 47 fresh, 48 fault (by text); 49 modCount, 50 grown (by list); 51 spare rows; 52 what aside holds (0 null, 1 an old cell, 2 a told row); 53 the keepings are the spare rows; 54 how many of a list's cells stand -/
set_option maxRecDepth 100000
section W0
variable {l : Launch} {M : xM} {S : xS} {pc : Nat} {ls : List (Option Value)} {st : List Value} {w : xW} {k n : Nat}
/-- cells may be forgotten -/
theorem V_sub {w' : xW} (h : ∀ n c, w' n = some c → w n = some c) (kk : V l M S pc ls st w' k n) : V l M S pc ls st w k n := by
  intro p e s m args below meth c H locs lsA D ad0 ad A cells slots hC hN hL hk hn
  exact kk p e s m args below meth c H locs lsA D ad0 ad A cells slots hC ⟨⟨fun n c hc => hN.1.1 n c (h n c hc), fun n m c d hn hm => hN.1.2 n m c d (h _ _ hn) (h _ _ hm)⟩, hN.2⟩ hL hk hn
/-- a place of an array that names a cell may name it by a name that is nobody's -/
theorem V_alias {A a b j N : Nat} {ty : FieldType} {ow : Bool} {f : Nat → Value} (hA : w A = some (.inl (ty, ow, N, f))) (hj : f j = .ref b) (hw : w a = none) (hF : S.2.1 a) (hcell : ∀ n c, w n = some c → xnr a c) (hls : ∀ v, some v ∈ ls → v ≠ .ref a) (hst : ∀ v ∈ st, v ≠ .ref a)
    (kk : V l M S pc ls st (upw w A (.inl (ty, ow, N, xup f j (.ref a)))) k n) : V l M S pc ls st w k n := by
  intro p e s m args below meth c H locs lsA D ad0 ad A0 cells slots hC hN hL hk hn
  have hne : ∀ (n : Nat) (d : xC), w n = some d → n ≠ a := fun n d hd e => by rw [e, hw] at hd; cases hd
  have key : ∀ (n : Nat) (d : xC), upw w A (.inl (ty, ow, N, xup f j (.ref a))) n = some d → ∃ d', w n = some d' := by
    intro n d hd
    by_cases e : n = A
    · subst e; exact ⟨_, hA⟩
    · rw [upw_ne e] at hd; exact ⟨_, hd⟩
  have hN' : xNow S s D ad0 (fun n => if n = a then ad b else ad n) A0 (upw w A (.inl (ty, ow, N, xup f j (.ref a)))) H locs := by
    refine ⟨⟨fun n d hd => ?_, fun x y c1 c2 hx hy e => ?_⟩, hN.2.1, fun n hn => ?_⟩
    · obtain ⟨d', hd'⟩ := key n d hd
      have hna := hne n d' hd'
      show xat D _ s H (if n = a then ad b else ad n) d ∧ (xo d = true → A0 (if n = a then ad b else ad n))
      rw [if_neg hna]
      by_cases e : n = A
      · subst e
        rw [upw_self] at hd
        cases hd
        have h0 := hN.1.1 n _ hA
        refine ⟨?_, h0.2⟩
        obtain ⟨cell, h1, h2, h3, h4, h5, h6, h7⟩ := h0.1
        refine ⟨cell, h1, h2, h3, h4, h5, fun i hi => ?_, h7⟩
        have hc := hcell n _ hA i hi
        rw [h6 i hi]
        show some (xv ad (f i)) = some (xv _ (xup f j (.ref a) i))
        by_cases ei : i = j
        · subst ei
          rw [show xup f i (.ref a) i = .ref a from if_pos rfl, hj]
          show some (Value.ref (ad b)) = some (Value.ref (if a = a then ad b else ad a))
          rw [if_pos rfl]
        · rw [show xup f j (.ref a) i = f i from if_neg ei, xv_up hc]
      · rw [upw_ne e] at hd
        have h0 := hN.1.1 n _ hd
        exact ⟨h0.1.up (hcell n d hd), h0.2⟩
    · obtain ⟨x', hx'⟩ := key x c1 hx
      obtain ⟨y', hy'⟩ := key y c2 hy
      simp only [] at e
      rw [if_neg (hne x x' hx'), if_neg (hne y y' hy')] at e
      exact hN.1.2 x y x' y' hx' hy' e
    · show (if n = a then ad b else ad n) = ad0 n
      rw [if_neg (fun e => hn (by rw [e]; exact hF))]
      exact hN.2.2 n hn
  have := kk p e s m args below meth c H locs lsA D ad0 _ A0 cells slots hC hN' (xl_has hL (xl_up hls)) hk hn
  rw [xst_up hst] at this
  exact this
end W0
/-- contents of an array of numbers, N long -/
def cutI (N : Nat) (f : Nat → Int32) : Nat → Value := fun i => if i < N then .int (f i) else .null
theorem cutI_at {N i : Nat} {f : Nat → Int32} (h : i < N) : cutI N f i = .int (f i) := if_pos h
theorem cutI_congr {N : Nat} {f g : Nat → Int32} (h : ∀ i, i < N → f i = g i) : cutI N f = cutI N g := by
  funext i
  unfold cutI
  by_cases e : i < N
  · rw [if_pos e, if_pos e, h i e]
  · rw [if_neg e, if_neg e]
theorem cutI_up {N j : Nat} {f : Nat → Int32} {v : Int32} (h : j < N) : xup (cutI N f) j (.int v) = cutI N (fun i => if i = j then v else f i) := by
  funext i
  unfold xup cutI
  dsimp only
  by_cases e : i = j
  · subst e
    rw [if_pos rfl, if_pos h, if_pos rfl]
  · rw [if_neg e, if_neg e]
theorem mwr_ite (X : xSt) (j x q : Nat) (v : Int32) : mwr X j x v j q = if q = x then v else X j q := by
  by_cases e : q = x
  · rw [if_pos e, e, mwr_s]
  · rw [if_neg e, mwr_q _ _ _ _ e]
theorem mwr_ite2 (X : xSt) (j b x q : Nat) (v : Int32) : mwr X j (b + x) v j (b + q) = if q = x then v else X j (b + q) := by
  by_cases e : q = x
  · rw [if_pos e, e, mwr_s]
  · rw [if_neg e, mwr_q _ _ _ _ (by omega)]
def cutV (N : Nat) (f : Nat → Value) : Nat → Value := fun i => if i < N then f i else .null
theorem cutV_at {N i : Nat} {f : Nat → Value} (h : i < N) : cutV N f i = f i := if_pos h
theorem cutV_congr {N : Nat} {f g : Nat → Value} (h : ∀ i, i < N → f i = g i) : cutV N f = cutV N g := by
  funext i
  unfold cutV
  by_cases e : i < N
  · rw [if_pos e, if_pos e, h i e]
  · rw [if_neg e, if_neg e]
def szr (q : Nat) : Nat := match q with
  | 0 => 2
  | 1 => 5
  | 2 => 10
  | 3 => 13
  | 4 => 17
  | _ => 34
/-- the name of a sort's object -/
def soN (x : Int32) : Nat := if x = 0 then 901 else if x = nI 1 then 902 else 903
def cnt (X : xSt) (q : Nat) : Nat := vN (X (szr q) 0)
/-- how many of its cells stand -/
def std (X : xSt) (q : Nat) : Nat := vN (X 54 q)
/-- the name of list q's element i -/
def eln (X : xSt) (q i : Nat) : Nat := if q = 2 ∧ X 53 0 = nI 1 then 640 + i else 1088 + 64 * q + i
def x0fs (X : xSt) : List Value := [.int (X 44 0), .ref 64, .ref 65, .ref 194, .ref 195, .ref 196, .ref 320, .ref 321, .ref 322, .ref 704, .ref 705, .ref 706, .int (X 25 0), .int (X 26 0), .int (X 45 0), .int (X 45 1), .int (X 45 2), .int (X 45 3), .ref 197, .ref 707, .int (X 45 4), .ref 708, .ref 709, .ref 710]
def txfs (X : xSt) (t : Nat) : List Value := [.ref (128 + t), .int (if t = 0 then nI 8 else nI 10), .int (X 0 t), .int (X 46 t), .int (X 47 t), .int (X 48 t), .ref (192 + t)]
def lifs (X : xSt) (q : Nat) : List Value := [.int (X 49 q), .ref (if X 50 q = 0 then 904 else 256 + q), .int (X (szr q) 0)]
def asV (X : xSt) (i : Nat) : Value := if X 52 i = 0 then .null else if X 52 i = nI 1 then .ref (1472 + i) else .ref (1216 + i)
def shTy (X : xSt) (s : Nat) : FieldType := if X 40 s = 0 then .byte else if X 40 s = nI 1 then .short else .int

def qLen (i : Nat) : Nat := match i with
  | 0 => 1
  | 1 => 3
  | 2 => 10
  | 3 => 8
  | 4 => 9
  | _ => 24
def qAt (i j : Nat) : Int32 := match i with
  | 0 => nI 59
  | 1 => if j = 0 then nI 109 else if j = 1 then nI 115 else nI 97
  | 2 => nI (48 + j)
  | 3 => nI (97 + j)
  | 4 => nI (49 + j)
  | _ => nI (97 + j)
def cl0 (X : xSt) (d : Nat) : Option xC := if d = 0 then some (.inr (0, true, x0fs X)) else none
def cl1 (X : xSt) (d : Nat) : Option xC := if d < 2 then some (.inr (1 + d, true, txfs X d)) else none
def cl2 (X : xSt) (d : Nat) : Option xC := if d < 2 then some (.inl (.byte, true, (if d = 0 then 23 else 49), cutI (if d = 0 then 23 else 49) (fun i => (X 1 (49 * d + i)).toInt8.toInt32))) else none
def cl3 (X : xSt) (d : Nat) : Option xC := if d < 6 then some (.inr (3, true, lifs X d)) else none
def cl4 (X : xSt) (d : Nat) : Option xC := if d < 6 ∧ X 50 d ≠ 0 then some (.inl (.object "java/lang/Object", true, 10, fun i => if i < cnt X d then .ref (eln X d i) else .null)) else none
def cl5 (X : xSt) (d : Nat) : Option xC := if d < 3 then some (.inl (.int, true, (if d = 2 then 10 else 8), cutI (if d = 2 then 10 else 8) (fun i => X (27 + d) i))) else none
def cl6 (X : xSt) (d : Nat) : Option xC := if d < 24 then some (.inl (.int, true, 8, cutI 8 (fun i => X 30 (8 * d + i)))) else none
def cl7 (X : xSt) (d : Nat) : Option xC := if d < 24 then some (.inl (.int, true, 8, cutI 8 (fun i => X 31 (8 * d + i)))) else none
def cl8 (X : xSt) (d : Nat) : Option xC := if d < 24 then some (.inl (.int, true, 10, cutI 10 (fun i => X 32 (12 * d + i)))) else none
def cl9 (X : xSt) (d : Nat) : Option xC := if d < 10 then some (.inl (.int, true, 24, cutI 24 (fun i => X 38 (24 * d + i)))) else none
def cl10 (X : xSt) (d : Nat) : Option xC := if d < 8 then some (.inl (.int, true, 2, cutI 2 (fun i => X 51 (2 * d + i)))) else none
def cl11 (X : xSt) (d : Nat) : Option xC := match d with
  | 0 => some (.inl (.array .int, true, 24, fun i => .ref (384 + i)))
  | 1 => some (.inl (.array .int, true, 24, fun i => .ref (448 + i)))
  | 2 => some (.inl (.array .int, true, 24, fun i => .ref (512 + i)))
  | 3 => some (.inl (.array .int, true, 10, fun i => .ref (576 + i)))
  | 4 => some (.inl (.array .int, true, 8, cutV 8 (asV X)))
  | 5 => some (.inl (.array .int, true, 8, fun i => .ref (640 + i)))
  | 6 => some (.inl (.object "PromiseTailor$Sheet", true, 4, fun i => .ref (768 + i)))
  | _ => none
def cl12 (X : xSt) (d : Nat) : Option xC := if d < 4 then some (.inr (6, true, [if X 39 d = 0 then .null else .ref (832 + d)])) else none
def cl13 (X : xSt) (d : Nat) : Option xC := if d < 4 ∧ X 39 d ≠ 0 then some (.inl (shTy X d, true, vN (X 41 d), cutI (min 60 (vN (X 41 d))) (fun i => X 42 (60 * d + i)))) else none
def cl14 (X : xSt) (d : Nat) : Option xC := if d = 4 then some (.inl (.object "PromiseTailor$Sort", false, 3, fun i => .ref (901 + i))) else if 4 < d ∧ d < 8 then some (.inr (2 + d, false, [])) else if d = 8 then some (.inl (.object "java/lang/Object", false, 0, fun _ => .null)) else if 13 < d ∧ d < 20 then some (.inr (11, false, [.ref (906 + d), .int 0])) else if 23 < d ∧ d < 30 then some (.inl (.byte, false, qLen (d - 24), fun j => .int (qAt (d - 24) j))) else none
def cl17 (X : xSt) (d : Nat) : Option xC := if d < std X 0 then some (.inr (4, true, [.ref (soN (X 3 d)), .int (X 4 d)])) else none
def cl18 (X : xSt) (d : Nat) : Option xC := if d < std X 1 then some (.inr (5, true, [.int (X 6 d), .int (X 7 d), .int (X 8 d), .int (X 9 d)])) else none
def cl19 (X : xSt) (d : Nat) : Option xC := if d < std X 2 then some (.inl (.int, true, 2, cutI 2 (fun i => X (11 + i) d))) else none
def cl20 (X : xSt) (d : Nat) : Option xC := if d < std X 3 then some (.inl (.int, true, 3, cutI 3 (fun i => X (14 + i) d))) else none
def cl21 (X : xSt) (d : Nat) : Option xC := if d < std X 4 then some (.inl (.int, true, 3, cutI 3 (fun i => X (18 + i) d))) else none
def cl22 (X : xSt) (d : Nat) : Option xC := if d < std X 5 then some (.inl (.int, true, 3, cutI 3 (fun i => X (35 + i) d))) else none
def xcell (X : xSt) (b d : Nat) : Option xC := match b with
  | 0 => cl0 X d
  | 1 => cl1 X d
  | 2 => cl2 X d
  | 3 => cl3 X d
  | 4 => cl4 X d
  | 5 => cl5 X d
  | 6 => cl6 X d
  | 7 => cl7 X d
  | 8 => cl8 X d
  | 9 => cl9 X d
  | 10 => cl10 X d
  | 11 => cl11 X d
  | 12 => cl12 X d
  | 13 => cl13 X d
  | 14 => cl14 X d
  | 17 => cl17 X d
  | 18 => cl18 X d
  | 19 => cl19 X d
  | 20 => cl20 X d
  | 21 => cl21 X d
  | 22 => cl22 X d
  | _ => none
/-- PromiseTailor's world -/
def wX (X : xSt) : xW := fun n => xcell X (n / 64) (n % 64)
/-- which numbers a name's cell rests on -/
def dep (n j i : Nat) : Prop := match j with
  | 44 => n = 0
  | 25 => n = 0
  | 26 => n = 0
  | 45 => n = 0
  | 0 => n = 64 + i
  | 46 => n = 64 + i
  | 47 => n = 64 + i
  | 48 => n = 64 + i
  | 1 => 128 ≤ n ∧ 49 * (n - 128) ≤ i ∧ i < 49 * (n - 128) + 49
  | 49 => n = 192 + i
  | 50 => n = 192 + i ∨ n = 256 + i
  | 2 => n = 192 ∨ n = 256
  | 5 => n = 193 ∨ n = 257
  | 10 => n = 194 ∨ n = 258
  | 13 => n = 195 ∨ n = 259
  | 17 => n = 196 ∨ n = 260
  | 34 => n = 197 ∨ n = 261
  | 53 => n = 258
  | 27 => n = 320
  | 28 => n = 321
  | 29 => n = 322
  | 30 => 384 ≤ n ∧ 8 * (n - 384) ≤ i ∧ i < 8 * (n - 384) + 8
  | 31 => 448 ≤ n ∧ 8 * (n - 448) ≤ i ∧ i < 8 * (n - 448) + 8
  | 32 => 512 ≤ n ∧ 12 * (n - 512) ≤ i ∧ i < 12 * (n - 512) + 12
  | 38 => 576 ≤ n ∧ 24 * (n - 576) ≤ i ∧ i < 24 * (n - 576) + 24
  | 51 => 640 ≤ n ∧ 2 * (n - 640) ≤ i ∧ i < 2 * (n - 640) + 2
  | 52 => n = 708
  | 39 => n = 768 + i ∨ n = 832 + i
  | 40 => n = 832 + i
  | 41 => n = 832 + i
  | 42 => 832 ≤ n ∧ 60 * (n - 832) ≤ i ∧ i < 60 * (n - 832) + 60
  | 54 => 1088 + 64 * i ≤ n ∧ n < 1152 + 64 * i
  | 3 => n = 1088 + i
  | 4 => n = 1088 + i
  | 6 => n = 1152 + i
  | 7 => n = 1152 + i
  | 8 => n = 1152 + i
  | 9 => n = 1152 + i
  | 11 => n = 1216 + i
  | 12 => n = 1216 + i
  | 14 => n = 1280 + i
  | 15 => n = 1280 + i
  | 16 => n = 1280 + i
  | 18 => n = 1344 + i
  | 19 => n = 1344 + i
  | 20 => n = 1344 + i
  | 35 => n = 1408 + i
  | 36 => n = 1408 + i
  | 37 => n = 1408 + i
  | _ => False
theorem dep_44 {n i : Nat} : dep n 44 i = (n = 0) := rfl
theorem dep_25 {n i : Nat} : dep n 25 i = (n = 0) := rfl
theorem dep_26 {n i : Nat} : dep n 26 i = (n = 0) := rfl
theorem dep_45 {n i : Nat} : dep n 45 i = (n = 0) := rfl
theorem dep_0 {n i : Nat} : dep n 0 i = (n = 64 + i) := rfl
theorem dep_46 {n i : Nat} : dep n 46 i = (n = 64 + i) := rfl
theorem dep_47 {n i : Nat} : dep n 47 i = (n = 64 + i) := rfl
theorem dep_48 {n i : Nat} : dep n 48 i = (n = 64 + i) := rfl
theorem dep_1 {n i : Nat} : dep n 1 i = (128 ≤ n ∧ 49 * (n - 128) ≤ i ∧ i < 49 * (n - 128) + 49) := rfl
theorem dep_49 {n i : Nat} : dep n 49 i = (n = 192 + i) := rfl
theorem dep_50 {n i : Nat} : dep n 50 i = (n = 192 + i ∨ n = 256 + i) := rfl
theorem dep_2 {n i : Nat} : dep n 2 i = (n = 192 ∨ n = 256) := rfl
theorem dep_5 {n i : Nat} : dep n 5 i = (n = 193 ∨ n = 257) := rfl
theorem dep_10 {n i : Nat} : dep n 10 i = (n = 194 ∨ n = 258) := rfl
theorem dep_13 {n i : Nat} : dep n 13 i = (n = 195 ∨ n = 259) := rfl
theorem dep_17 {n i : Nat} : dep n 17 i = (n = 196 ∨ n = 260) := rfl
theorem dep_34 {n i : Nat} : dep n 34 i = (n = 197 ∨ n = 261) := rfl
theorem dep_53 {n i : Nat} : dep n 53 i = (n = 258) := rfl
theorem dep_27 {n i : Nat} : dep n 27 i = (n = 320) := rfl
theorem dep_28 {n i : Nat} : dep n 28 i = (n = 321) := rfl
theorem dep_29 {n i : Nat} : dep n 29 i = (n = 322) := rfl
theorem dep_30 {n i : Nat} : dep n 30 i = (384 ≤ n ∧ 8 * (n - 384) ≤ i ∧ i < 8 * (n - 384) + 8) := rfl
theorem dep_31 {n i : Nat} : dep n 31 i = (448 ≤ n ∧ 8 * (n - 448) ≤ i ∧ i < 8 * (n - 448) + 8) := rfl
theorem dep_32 {n i : Nat} : dep n 32 i = (512 ≤ n ∧ 12 * (n - 512) ≤ i ∧ i < 12 * (n - 512) + 12) := rfl
theorem dep_38 {n i : Nat} : dep n 38 i = (576 ≤ n ∧ 24 * (n - 576) ≤ i ∧ i < 24 * (n - 576) + 24) := rfl
theorem dep_51 {n i : Nat} : dep n 51 i = (640 ≤ n ∧ 2 * (n - 640) ≤ i ∧ i < 2 * (n - 640) + 2) := rfl
theorem dep_52 {n i : Nat} : dep n 52 i = (n = 708) := rfl
theorem dep_39 {n i : Nat} : dep n 39 i = (n = 768 + i ∨ n = 832 + i) := rfl
theorem dep_40 {n i : Nat} : dep n 40 i = (n = 832 + i) := rfl
theorem dep_41 {n i : Nat} : dep n 41 i = (n = 832 + i) := rfl
theorem dep_42 {n i : Nat} : dep n 42 i = (832 ≤ n ∧ 60 * (n - 832) ≤ i ∧ i < 60 * (n - 832) + 60) := rfl
theorem dep_54 {n i : Nat} : dep n 54 i = (1088 + 64 * i ≤ n ∧ n < 1152 + 64 * i) := rfl
theorem dep_3 {n i : Nat} : dep n 3 i = (n = 1088 + i) := rfl
theorem dep_4 {n i : Nat} : dep n 4 i = (n = 1088 + i) := rfl
theorem dep_6 {n i : Nat} : dep n 6 i = (n = 1152 + i) := rfl
theorem dep_7 {n i : Nat} : dep n 7 i = (n = 1152 + i) := rfl
theorem dep_8 {n i : Nat} : dep n 8 i = (n = 1152 + i) := rfl
theorem dep_9 {n i : Nat} : dep n 9 i = (n = 1152 + i) := rfl
theorem dep_11 {n i : Nat} : dep n 11 i = (n = 1216 + i) := rfl
theorem dep_12 {n i : Nat} : dep n 12 i = (n = 1216 + i) := rfl
theorem dep_14 {n i : Nat} : dep n 14 i = (n = 1280 + i) := rfl
theorem dep_15 {n i : Nat} : dep n 15 i = (n = 1280 + i) := rfl
theorem dep_16 {n i : Nat} : dep n 16 i = (n = 1280 + i) := rfl
theorem dep_18 {n i : Nat} : dep n 18 i = (n = 1344 + i) := rfl
theorem dep_19 {n i : Nat} : dep n 19 i = (n = 1344 + i) := rfl
theorem dep_20 {n i : Nat} : dep n 20 i = (n = 1344 + i) := rfl
theorem dep_35 {n i : Nat} : dep n 35 i = (n = 1408 + i) := rfl
theorem dep_36 {n i : Nat} : dep n 36 i = (n = 1408 + i) := rfl
theorem dep_37 {n i : Nat} : dep n 37 i = (n = 1408 + i) := rfl
theorem cl0_dep {X X' : xSt} {d : Nat} {n : Nat} (h9 : d < 64) (hn : n = 64 * 0 + d) (h : ∀ j i, dep n j i → X j i = X' j i) : cl0 X d = cl0 X' d := by
  unfold cl0
  by_cases f : d = 0
  · rw [if_pos f, if_pos f]
    unfold x0fs
    rw [h 44 0 (by rw [dep_44] <;> omega), h 25 0 (by rw [dep_25] <;> omega), h 26 0 (by rw [dep_26] <;> omega), h 45 0 (by rw [dep_45] <;> omega), h 45 1 (by rw [dep_45] <;> omega), h 45 2 (by rw [dep_45] <;> omega), h 45 3 (by rw [dep_45] <;> omega), h 45 4 (by rw [dep_45] <;> omega)]
  · rw [if_neg f, if_neg f]
theorem cl1_dep {X X' : xSt} {d : Nat} {n : Nat} (h9 : d < 64) (hn : n = 64 * 1 + d) (h : ∀ j i, dep n j i → X j i = X' j i) : cl1 X d = cl1 X' d := by
  unfold cl1
  by_cases f : d < 2
  · rw [if_pos f, if_pos f]
    unfold txfs
    rw [h 0 d (by rw [dep_0] <;> omega), h 46 d (by rw [dep_46] <;> omega), h 47 d (by rw [dep_47] <;> omega), h 48 d (by rw [dep_48] <;> omega)]
  · rw [if_neg f, if_neg f]
theorem cl2_dep {X X' : xSt} {d : Nat} {n : Nat} (h9 : d < 64) (hn : n = 64 * 2 + d) (h : ∀ j i, dep n j i → X j i = X' j i) : cl2 X d = cl2 X' d := by
  unfold cl2
  by_cases f : d < 2
  · rw [if_pos f, if_pos f]
    have e49 : (if d = 0 then 23 else 49) ≤ 49 := (by by_cases e : d = 0 <;> simp [e])
    rw [cutI_congr (fun i hi => congrArg (fun z : Int32 => z.toInt8.toInt32) (h 1 (49 * d + i) (by rw [dep_1]; omega)))]
  · rw [if_neg f, if_neg f]
theorem cl3_dep {X X' : xSt} {d : Nat} {n : Nat} (h9 : d < 64) (hn : n = 64 * 3 + d) (h : ∀ j i, dep n j i → X j i = X' j i) : cl3 X d = cl3 X' d := by
  unfold cl3
  by_cases f : d < 6
  · rw [if_pos f, if_pos f]
    have hs : X (szr d) 0 = X' (szr d) 0 := by
      match d, f, h with
      | 0, _, h => exact h 2 0 (by rw [dep_2] <;> omega)
      | 1, _, h => exact h 5 0 (by rw [dep_5] <;> omega)
      | 2, _, h => exact h 10 0 (by rw [dep_10] <;> omega)
      | 3, _, h => exact h 13 0 (by rw [dep_13] <;> omega)
      | 4, _, h => exact h 17 0 (by rw [dep_17] <;> omega)
      | 5, _, h => exact h 34 0 (by rw [dep_34] <;> omega)
      | d + 6, f, _ => exact absurd f (by omega)
    unfold lifs
    rw [hs, h 49 d (by rw [dep_49] <;> omega), h 50 d (by rw [dep_50] <;> omega)]
  · rw [if_neg f, if_neg f]
theorem cl4_dep {X X' : xSt} {d : Nat} {n : Nat} (h9 : d < 64) (hn : n = 64 * 4 + d) (h : ∀ j i, dep n j i → X j i = X' j i) : cl4 X d = cl4 X' d := by
  unfold cl4
  by_cases f : d < 6
  · rw [h 50 d (by rw [dep_50] <;> omega)]
    by_cases f0 : d < 6 ∧ X' 50 d ≠ 0
    · rw [if_pos f0, if_pos f0]
      have hs : X (szr d) 0 = X' (szr d) 0 := by
        match d, f, h with
        | 0, _, h => exact h 2 0 (by rw [dep_2] <;> omega)
        | 1, _, h => exact h 5 0 (by rw [dep_5] <;> omega)
        | 2, _, h => exact h 10 0 (by rw [dep_10] <;> omega)
        | 3, _, h => exact h 13 0 (by rw [dep_13] <;> omega)
        | 4, _, h => exact h 17 0 (by rw [dep_17] <;> omega)
        | 5, _, h => exact h 34 0 (by rw [dep_34] <;> omega)
        | d + 6, f, _ => exact absurd f (by omega)
      have he : ∀ i, eln X d i = eln X' d i := by
        intro i
        unfold eln
        by_cases e : d = 2
        · rw [h 53 0 (by rw [dep_53] <;> omega)]
        · rw [if_neg (fun z => e z.1), if_neg (fun z => e z.1)]
      unfold cnt
      rw [hs]
      simp only [he]
    · rw [if_neg f0, if_neg f0]
  · rw [if_neg (fun z => f z.1), if_neg (fun z => f z.1)]
theorem cl5_dep {X X' : xSt} {d : Nat} {n : Nat} (h9 : d < 64) (hn : n = 64 * 5 + d) (h : ∀ j i, dep n j i → X j i = X' j i) : cl5 X d = cl5 X' d := by
  unfold cl5
  match d, h with
  | 0, h => exact congrArg (fun z => some (Sum.inl (FieldType.int, true, 8, z))) (cutI_congr fun i _ => h 27 i (by rw [dep_27] <;> omega))
  | 1, h => exact congrArg (fun z => some (Sum.inl (FieldType.int, true, 8, z))) (cutI_congr fun i _ => h 28 i (by rw [dep_28] <;> omega))
  | 2, h => exact congrArg (fun z => some (Sum.inl (FieldType.int, true, 10, z))) (cutI_congr fun i _ => h 29 i (by rw [dep_29] <;> omega))
  | d + 3, _ => rw [if_neg (by omega), if_neg (by omega)]
theorem cl6_dep {X X' : xSt} {d : Nat} {n : Nat} (h9 : d < 64) (hn : n = 64 * 6 + d) (h : ∀ j i, dep n j i → X j i = X' j i) : cl6 X d = cl6 X' d := by
  unfold cl6
  by_cases f : d < 24
  · rw [if_pos f, if_pos f]
    rw [cutI_congr (fun i hi => h 30 (8 * d + i) (by rw [dep_30] <;> omega))]
  · rw [if_neg f, if_neg f]
theorem cl7_dep {X X' : xSt} {d : Nat} {n : Nat} (h9 : d < 64) (hn : n = 64 * 7 + d) (h : ∀ j i, dep n j i → X j i = X' j i) : cl7 X d = cl7 X' d := by
  unfold cl7
  by_cases f : d < 24
  · rw [if_pos f, if_pos f]
    rw [cutI_congr (fun i hi => h 31 (8 * d + i) (by rw [dep_31] <;> omega))]
  · rw [if_neg f, if_neg f]
theorem cl8_dep {X X' : xSt} {d : Nat} {n : Nat} (h9 : d < 64) (hn : n = 64 * 8 + d) (h : ∀ j i, dep n j i → X j i = X' j i) : cl8 X d = cl8 X' d := by
  unfold cl8
  by_cases f : d < 24
  · rw [if_pos f, if_pos f]
    rw [cutI_congr (fun i hi => h 32 (12 * d + i) (by rw [dep_32] <;> omega))]
  · rw [if_neg f, if_neg f]
theorem cl9_dep {X X' : xSt} {d : Nat} {n : Nat} (h9 : d < 64) (hn : n = 64 * 9 + d) (h : ∀ j i, dep n j i → X j i = X' j i) : cl9 X d = cl9 X' d := by
  unfold cl9
  by_cases f : d < 10
  · rw [if_pos f, if_pos f]
    rw [cutI_congr (fun i hi => h 38 (24 * d + i) (by rw [dep_38] <;> omega))]
  · rw [if_neg f, if_neg f]
theorem cl10_dep {X X' : xSt} {d : Nat} {n : Nat} (h9 : d < 64) (hn : n = 64 * 10 + d) (h : ∀ j i, dep n j i → X j i = X' j i) : cl10 X d = cl10 X' d := by
  unfold cl10
  by_cases f : d < 8
  · rw [if_pos f, if_pos f]
    rw [cutI_congr (fun i hi => h 51 (2 * d + i) (by rw [dep_51] <;> omega))]
  · rw [if_neg f, if_neg f]
theorem asV_dep {X X' : xSt} {i : Nat} (h : X 52 i = X' 52 i) : asV X i = asV X' i := by
  unfold asV
  rw [h]
theorem cl11_dep {X X' : xSt} {d : Nat} {n : Nat} (h9 : d < 64) (hn : n = 64 * 11 + d) (h : ∀ j i, dep n j i → X j i = X' j i) : cl11 X d = cl11 X' d := by
  unfold cl11
  match d, h with
  | 0, _ => rfl
  | 1, _ => rfl
  | 2, _ => rfl
  | 3, _ => rfl
  | 4, h => exact congrArg (fun z => some (Sum.inl (FieldType.array .int, true, 8, z))) (cutV_congr fun i hi => asV_dep (h 52 i (by rw [dep_52] <;> omega)))
  | 5, _ => rfl
  | 6, _ => rfl
  | d + 7, _ => rfl
theorem cl12_dep {X X' : xSt} {d : Nat} {n : Nat} (h9 : d < 64) (hn : n = 64 * 12 + d) (h : ∀ j i, dep n j i → X j i = X' j i) : cl12 X d = cl12 X' d := by
  unfold cl12
  rw [h 39 d (by rw [dep_39] <;> omega)]
theorem cl13_dep {X X' : xSt} {d : Nat} {n : Nat} (h9 : d < 64) (hn : n = 64 * 13 + d) (h : ∀ j i, dep n j i → X j i = X' j i) : cl13 X d = cl13 X' d := by
  unfold cl13
  rw [h 39 d (by rw [dep_39] <;> omega), h 41 d (by rw [dep_41] <;> omega), cutI_congr (fun i hi => h 42 (60 * d + i) (by have := Nat.lt_of_lt_of_le hi (Nat.min_le_left 60 _); rw [dep_42]; omega))]
  unfold shTy
  rw [h 40 d (by rw [dep_40] <;> omega)]
theorem cl14_dep {X X' : xSt} {d : Nat} : cl14 X d = cl14 X' d := rfl
theorem cl17_dep {X X' : xSt} {d : Nat} {n : Nat} (h9 : d < 64) (hn : n = 64 * 17 + d) (h : ∀ j i, dep n j i → X j i = X' j i) : cl17 X d = cl17 X' d := by
  unfold cl17
  unfold std
  rw [h 54 0 (by rw [dep_54] <;> omega), h 3 d (by rw [dep_3] <;> omega), h 4 d (by rw [dep_4] <;> omega)]
theorem cl18_dep {X X' : xSt} {d : Nat} {n : Nat} (h9 : d < 64) (hn : n = 64 * 18 + d) (h : ∀ j i, dep n j i → X j i = X' j i) : cl18 X d = cl18 X' d := by
  unfold cl18
  unfold std
  rw [h 54 1 (by rw [dep_54] <;> omega), h 6 d (by rw [dep_6] <;> omega), h 7 d (by rw [dep_7] <;> omega), h 8 d (by rw [dep_8] <;> omega), h 9 d (by rw [dep_9] <;> omega)]
theorem cl19_dep {X X' : xSt} {d : Nat} {n : Nat} (h9 : d < 64) (hn : n = 64 * 19 + d) (h : ∀ j i, dep n j i → X j i = X' j i) : cl19 X d = cl19 X' d := by
  unfold cl19
  unfold std
  rw [h 54 2 (by rw [dep_54] <;> omega), cutI_congr (f := fun i => X (11 + i) d) (g := fun i => X' (11 + i) d) (fun i hi => by match i, hi with | 0, _ => exact h 11 d (by rw [dep_11] <;> omega) | 1, _ => exact h 12 d (by rw [dep_12] <;> omega) | i + 2, hi => exact absurd hi (by omega))]
theorem cl20_dep {X X' : xSt} {d : Nat} {n : Nat} (h9 : d < 64) (hn : n = 64 * 20 + d) (h : ∀ j i, dep n j i → X j i = X' j i) : cl20 X d = cl20 X' d := by
  unfold cl20
  unfold std
  rw [h 54 3 (by rw [dep_54] <;> omega), cutI_congr (f := fun i => X (14 + i) d) (g := fun i => X' (14 + i) d) (fun i hi => by match i, hi with | 0, _ => exact h 14 d (by rw [dep_14] <;> omega) | 1, _ => exact h 15 d (by rw [dep_15] <;> omega) | 2, _ => exact h 16 d (by rw [dep_16] <;> omega) | i + 3, hi => exact absurd hi (by omega))]
theorem cl21_dep {X X' : xSt} {d : Nat} {n : Nat} (h9 : d < 64) (hn : n = 64 * 21 + d) (h : ∀ j i, dep n j i → X j i = X' j i) : cl21 X d = cl21 X' d := by
  unfold cl21
  unfold std
  rw [h 54 4 (by rw [dep_54] <;> omega), cutI_congr (f := fun i => X (18 + i) d) (g := fun i => X' (18 + i) d) (fun i hi => by match i, hi with | 0, _ => exact h 18 d (by rw [dep_18] <;> omega) | 1, _ => exact h 19 d (by rw [dep_19] <;> omega) | 2, _ => exact h 20 d (by rw [dep_20] <;> omega) | i + 3, hi => exact absurd hi (by omega))]
theorem cl22_dep {X X' : xSt} {d : Nat} {n : Nat} (h9 : d < 64) (hn : n = 64 * 22 + d) (h : ∀ j i, dep n j i → X j i = X' j i) : cl22 X d = cl22 X' d := by
  unfold cl22
  unfold std
  rw [h 54 5 (by rw [dep_54] <;> omega), cutI_congr (f := fun i => X (35 + i) d) (g := fun i => X' (35 + i) d) (fun i hi => by match i, hi with | 0, _ => exact h 35 d (by rw [dep_35] <;> omega) | 1, _ => exact h 36 d (by rw [dep_36] <;> omega) | 2, _ => exact h 37 d (by rw [dep_37] <;> omega) | i + 3, hi => exact absurd hi (by omega))]
theorem xcell_none {X : xSt} {b d : Nat} (h : 23 ≤ b) : xcell X b d = none := by
  obtain ⟨z, rfl⟩ := Nat.exists_eq_add_of_le h
  rw [Nat.add_comm]
  rfl
theorem xc0 (X : xSt) (d : Nat) : xcell X 0 d = cl0 X d := rfl
theorem xc1 (X : xSt) (d : Nat) : xcell X 1 d = cl1 X d := rfl
theorem xc2 (X : xSt) (d : Nat) : xcell X 2 d = cl2 X d := rfl
theorem xc3 (X : xSt) (d : Nat) : xcell X 3 d = cl3 X d := rfl
theorem xc4 (X : xSt) (d : Nat) : xcell X 4 d = cl4 X d := rfl
theorem xc5 (X : xSt) (d : Nat) : xcell X 5 d = cl5 X d := rfl
theorem xc6 (X : xSt) (d : Nat) : xcell X 6 d = cl6 X d := rfl
theorem xc7 (X : xSt) (d : Nat) : xcell X 7 d = cl7 X d := rfl
theorem xc8 (X : xSt) (d : Nat) : xcell X 8 d = cl8 X d := rfl
theorem xc9 (X : xSt) (d : Nat) : xcell X 9 d = cl9 X d := rfl
theorem xc10 (X : xSt) (d : Nat) : xcell X 10 d = cl10 X d := rfl
theorem xc11 (X : xSt) (d : Nat) : xcell X 11 d = cl11 X d := rfl
theorem xc12 (X : xSt) (d : Nat) : xcell X 12 d = cl12 X d := rfl
theorem xc13 (X : xSt) (d : Nat) : xcell X 13 d = cl13 X d := rfl
theorem xc14 (X : xSt) (d : Nat) : xcell X 14 d = cl14 X d := rfl
theorem xc15 (X : xSt) (d : Nat) : xcell X 15 d = none := rfl
theorem xc16 (X : xSt) (d : Nat) : xcell X 16 d = none := rfl
theorem xc17 (X : xSt) (d : Nat) : xcell X 17 d = cl17 X d := rfl
theorem xc18 (X : xSt) (d : Nat) : xcell X 18 d = cl18 X d := rfl
theorem xc19 (X : xSt) (d : Nat) : xcell X 19 d = cl19 X d := rfl
theorem xc20 (X : xSt) (d : Nat) : xcell X 20 d = cl20 X d := rfl
theorem xc21 (X : xSt) (d : Nat) : xcell X 21 d = cl21 X d := rfl
theorem xc22 (X : xSt) (d : Nat) : xcell X 22 d = cl22 X d := rfl
theorem xcell_lt {X X' : xSt} {d n : Nat} (h9 : d < 64) (h : ∀ j i, dep n j i → X j i = X' j i) (b : Nat) (hn : n = 64 * b + d) (hb : b < 23) : xcell X b d = xcell X' b d := by
  rcases Nat.lt_or_ge 0 b with e0 | e0
  rotate_left
  · have z : b = 0 := Nat.le_zero.mp e0
    subst z
    rw [xc0, xc0]
    exact cl0_dep h9 hn h
  rcases Nat.lt_or_ge 1 b with e1 | e1
  rotate_left
  · have z : b = 1 := Nat.le_antisymm e1 e0
    subst z
    rw [xc1, xc1]
    exact cl1_dep h9 hn h
  rcases Nat.lt_or_ge 2 b with e2 | e2
  rotate_left
  · have z : b = 2 := Nat.le_antisymm e2 e1
    subst z
    rw [xc2, xc2]
    exact cl2_dep h9 hn h
  rcases Nat.lt_or_ge 3 b with e3 | e3
  rotate_left
  · have z : b = 3 := Nat.le_antisymm e3 e2
    subst z
    rw [xc3, xc3]
    exact cl3_dep h9 hn h
  rcases Nat.lt_or_ge 4 b with e4 | e4
  rotate_left
  · have z : b = 4 := Nat.le_antisymm e4 e3
    subst z
    rw [xc4, xc4]
    exact cl4_dep h9 hn h
  rcases Nat.lt_or_ge 5 b with e5 | e5
  rotate_left
  · have z : b = 5 := Nat.le_antisymm e5 e4
    subst z
    rw [xc5, xc5]
    exact cl5_dep h9 hn h
  rcases Nat.lt_or_ge 6 b with e6 | e6
  rotate_left
  · have z : b = 6 := Nat.le_antisymm e6 e5
    subst z
    rw [xc6, xc6]
    exact cl6_dep h9 hn h
  rcases Nat.lt_or_ge 7 b with e7 | e7
  rotate_left
  · have z : b = 7 := Nat.le_antisymm e7 e6
    subst z
    rw [xc7, xc7]
    exact cl7_dep h9 hn h
  rcases Nat.lt_or_ge 8 b with e8 | e8
  rotate_left
  · have z : b = 8 := Nat.le_antisymm e8 e7
    subst z
    rw [xc8, xc8]
    exact cl8_dep h9 hn h
  rcases Nat.lt_or_ge 9 b with e9 | e9
  rotate_left
  · have z : b = 9 := Nat.le_antisymm e9 e8
    subst z
    rw [xc9, xc9]
    exact cl9_dep h9 hn h
  rcases Nat.lt_or_ge 10 b with e10 | e10
  rotate_left
  · have z : b = 10 := Nat.le_antisymm e10 e9
    subst z
    rw [xc10, xc10]
    exact cl10_dep h9 hn h
  rcases Nat.lt_or_ge 11 b with e11 | e11
  rotate_left
  · have z : b = 11 := Nat.le_antisymm e11 e10
    subst z
    rw [xc11, xc11]
    exact cl11_dep h9 hn h
  rcases Nat.lt_or_ge 12 b with e12 | e12
  rotate_left
  · have z : b = 12 := Nat.le_antisymm e12 e11
    subst z
    rw [xc12, xc12]
    exact cl12_dep h9 hn h
  rcases Nat.lt_or_ge 13 b with e13 | e13
  rotate_left
  · have z : b = 13 := Nat.le_antisymm e13 e12
    subst z
    rw [xc13, xc13]
    exact cl13_dep h9 hn h
  rcases Nat.lt_or_ge 14 b with e14 | e14
  rotate_left
  · have z : b = 14 := Nat.le_antisymm e14 e13
    subst z
    rw [xc14, xc14]
    exact cl14_dep
  rcases Nat.lt_or_ge 15 b with e15 | e15
  rotate_left
  · have z : b = 15 := Nat.le_antisymm e15 e14
    subst z
    rw [xc15, xc15]
  rcases Nat.lt_or_ge 16 b with e16 | e16
  rotate_left
  · have z : b = 16 := Nat.le_antisymm e16 e15
    subst z
    rw [xc16, xc16]
  rcases Nat.lt_or_ge 17 b with e17 | e17
  rotate_left
  · have z : b = 17 := Nat.le_antisymm e17 e16
    subst z
    rw [xc17, xc17]
    exact cl17_dep h9 hn h
  rcases Nat.lt_or_ge 18 b with e18 | e18
  rotate_left
  · have z : b = 18 := Nat.le_antisymm e18 e17
    subst z
    rw [xc18, xc18]
    exact cl18_dep h9 hn h
  rcases Nat.lt_or_ge 19 b with e19 | e19
  rotate_left
  · have z : b = 19 := Nat.le_antisymm e19 e18
    subst z
    rw [xc19, xc19]
    exact cl19_dep h9 hn h
  rcases Nat.lt_or_ge 20 b with e20 | e20
  rotate_left
  · have z : b = 20 := Nat.le_antisymm e20 e19
    subst z
    rw [xc20, xc20]
    exact cl20_dep h9 hn h
  rcases Nat.lt_or_ge 21 b with e21 | e21
  rotate_left
  · have z : b = 21 := Nat.le_antisymm e21 e20
    subst z
    rw [xc21, xc21]
    exact cl21_dep h9 hn h
  rcases Nat.lt_or_ge 22 b with e22 | e22
  rotate_left
  · have z : b = 22 := Nat.le_antisymm e22 e21
    subst z
    rw [xc22, xc22]
    exact cl22_dep h9 hn h
  exact absurd hb (Nat.not_lt.mpr e22)
theorem xcell_dep {X X' : xSt} {d n : Nat} (h9 : d < 64) (h : ∀ j i, dep n j i → X j i = X' j i) (b : Nat) (hn : n = 64 * b + d) : xcell X b d = xcell X' b d := by
  by_cases e : b < 23
  · exact xcell_lt h9 h b hn e
  · rw [xcell_none (Nat.not_lt.mp e), xcell_none (Nat.not_lt.mp e)]
theorem wX_dep {X X' : xSt} {n : Nat} (h : ∀ j i, dep n j i → X j i = X' j i) : wX X n = wX X' n := xcell_dep (Nat.mod_lt n (by decide)) h (n / 64) (Nat.div_add_mod n 64).symm
theorem wX_mwr {X : xSt} {n j i : Nat} {v : Int32} (h : ¬ dep n j i) : wX (mwr X j i v) n = wX X n := wX_dep fun r q hd => by
  by_cases e : r = j
  · subst e
    exact mwr_q _ _ _ _ (fun z => h (by rw [← z]; exact hd))
  · exact mwr_r _ _ _ _ e
theorem wX_up {X X' : xSt} {a : Nat} {c : xC} (ha : wX X' a = some c) (ho : ∀ n, n ≠ a → wX X' n = wX X n) : upw (wX X) a c = wX X' := by
  funext n
  by_cases e : n = a
  · subst e
    rw [upw_self, ha]
  · rw [upw_ne e, ho n e]
theorem wX_set {X X' : xSt} {a j i : Nat} {v : Int32} {c : xC} (hX : X' = mwr X j i v) (ha : wX X' a = some c) (hd : ∀ n, n ≠ a → ¬ dep n j i) : upw (wX X) a c = wX X' := by
  subst hX
  exact wX_up ha fun n hn => wX_mwr (hd n hn)
theorem wX_obj (X : xSt) : wX X 0 = some (.inr (0, true, x0fs X)) := rfl
theorem wX_tx0 (X : xSt) : wX X 64 = some (.inr (1, true, txfs X 0)) := rfl
theorem wX_tx1 (X : xSt) : wX X 65 = some (.inr (2, true, txfs X 1)) := rfl
theorem wX_tx (X : xSt) {t : Nat} (h : t < 2) : wX X (64 + t) = some (.inr (1 + t, true, txfs X t)) := by
  unfold wX
  rw [show (64 + t) / 64 = 1 from by omega, show (64 + t) % 64 = t from by omega]
  exact if_pos h
theorem wX_by (X : xSt) {t : Nat} (h : t < 2) : wX X (128 + t) = some (.inl (.byte, true, (if t = 0 then 23 else 49), cutI (if t = 0 then 23 else 49) (fun i => (X 1 (49 * t + i)).toInt8.toInt32))) := by
  unfold wX
  rw [show (128 + t) / 64 = 2 from by omega, show (128 + t) % 64 = t from by omega]
  exact if_pos h
theorem wX_li (X : xSt) {q : Nat} (h : q < 6) : wX X (192 + q) = some (.inr (3, true, lifs X q)) := by
  unfold wX
  rw [show (192 + q) / 64 = 3 from by omega, show (192 + q) % 64 = q from by omega]
  exact if_pos h
theorem wX_da (X : xSt) {q : Nat} (h : q < 6 ∧ X 50 q ≠ 0) : wX X (256 + q) = some (.inl (.object "java/lang/Object", true, 10, fun i => if i < cnt X q then .ref (eln X q i) else .null)) := by
  unfold wX
  rw [show (256 + q) / 64 = 4 from by omega, show (256 + q) % 64 = q from by omega]
  exact if_pos h
theorem wX_da0 (X : xSt) {q : Nat} (h0 : q < 6) (h : X 50 q = 0) : wX X (256 + q) = none := by
  unfold wX
  rw [show (256 + q) / 64 = 4 from by omega, show (256 + q) % 64 = q from by omega]
  exact if_neg (fun z => z.2 h)
theorem wX_by0 (X : xSt) : wX X 128 = some (.inl (.byte, true, 23, cutI 23 (fun i => (X 1 (49 * 0 + i)).toInt8.toInt32))) := rfl
theorem wX_by1 (X : xSt) : wX X 129 = some (.inl (.byte, true, 49, cutI 49 (fun i => (X 1 (49 * 1 + i)).toInt8.toInt32))) := rfl
theorem wX_coats (X : xSt) : wX X 320 = some (.inl (.int, true, 8, cutI 8 (fun i => X 27 i))) := rfl
theorem wX_torn (X : xSt) : wX X 321 = some (.inl (.int, true, 8, cutI 8 (fun i => X 28 i))) := rfl
theorem wX_states (X : xSt) : wX X 322 = some (.inl (.int, true, 10, cutI 10 (fun i => X 29 i))) := rfl
theorem wX_crow (X : xSt) {d : Nat} (h : d < 24) : wX X (384 + d) = some (.inl (.int, true, 8, cutI 8 (fun i => X 30 (8 * d + i)))) := by
  unfold wX
  rw [show (384 + d) / 64 = 6 from by omega, show (384 + d) % 64 = d from by omega]
  exact if_pos h
theorem wX_trow (X : xSt) {d : Nat} (h : d < 24) : wX X (448 + d) = some (.inl (.int, true, 8, cutI 8 (fun i => X 31 (8 * d + i)))) := by
  unfold wX
  rw [show (448 + d) / 64 = 7 from by omega, show (448 + d) % 64 = d from by omega]
  exact if_pos h
theorem wX_srow (X : xSt) {d : Nat} (h : d < 24) : wX X (512 + d) = some (.inl (.int, true, 10, cutI 10 (fun i => X 32 (12 * d + i)))) := by
  unfold wX
  rw [show (512 + d) / 64 = 8 from by omega, show (512 + d) % 64 = d from by omega]
  exact if_pos h
theorem wX_had (X : xSt) {d : Nat} (h : d < 10) : wX X (576 + d) = some (.inl (.int, true, 24, cutI 24 (fun i => X 38 (24 * d + i)))) := by
  unfold wX
  rw [show (576 + d) / 64 = 9 from by omega, show (576 + d) % 64 = d from by omega]
  exact if_pos h
theorem wX_spare (X : xSt) {d : Nat} (h : d < 8) : wX X (640 + d) = some (.inl (.int, true, 2, cutI 2 (fun i => X 51 (2 * d + i)))) := by
  unfold wX
  rw [show (640 + d) / 64 = 10 from by omega, show (640 + d) % 64 = d from by omega]
  exact if_pos h
theorem wX_coatsBy (X : xSt) : wX X 704 = some (.inl (.array .int, true, 24, fun i => .ref (384 + i))) := rfl
theorem wX_tornBy (X : xSt) : wX X 705 = some (.inl (.array .int, true, 24, fun i => .ref (448 + i))) := rfl
theorem wX_statesBy (X : xSt) : wX X 706 = some (.inl (.array .int, true, 24, fun i => .ref (512 + i))) := rfl
theorem wX_hads (X : xSt) : wX X 707 = some (.inl (.array .int, true, 10, fun i => .ref (576 + i))) := rfl
theorem wX_spares (X : xSt) : wX X 709 = some (.inl (.array .int, true, 8, fun i => .ref (640 + i))) := rfl
theorem wX_aside (X : xSt) : wX X 708 = some (.inl (.array .int, true, 8, cutV 8 (asV X))) := rfl
theorem wX_sheets (X : xSt) : wX X 710 = some (.inl (.object "PromiseTailor$Sheet", true, 4, fun i => .ref (768 + i))) := rfl
theorem wX_sh (X : xSt) {s : Nat} (h : s < 4) : wX X (768 + s) = some (.inr (6, true, [if X 39 s = 0 then .null else .ref (832 + s)])) := by
  unfold wX
  rw [show (768 + s) / 64 = 12 from by omega, show (768 + s) % 64 = s from by omega]
  exact if_pos h
theorem wX_row (X : xSt) {s : Nat} (h : s < 4 ∧ X 39 s ≠ 0) : wX X (832 + s) = some (.inl (shTy X s, true, vN (X 41 s), cutI (min 60 (vN (X 41 s))) (fun i => X 42 (60 * s + i)))) := by
  unfold wX
  rw [show (832 + s) / 64 = 13 from by omega, show (832 + s) % 64 = s from by omega]
  exact if_pos h
theorem wX_row0 (X : xSt) {s : Nat} (h0 : s < 4) (h : X 39 s = 0) : wX X (832 + s) = none := by
  unfold wX
  rw [show (832 + s) / 64 = 13 from by omega, show (832 + s) % 64 = s from by omega]
  exact if_neg (fun z => z.2 h)
theorem wX_SORT (X : xSt) : wX X 900 = some (.inl (.object "PromiseTailor$Sort", false, 3, fun i => .ref (901 + i))) := rfl
theorem wX_so0 (X : xSt) : wX X 901 = some (.inr (7, false, [])) := rfl
theorem wX_so1 (X : xSt) : wX X 902 = some (.inr (8, false, [])) := rfl
theorem wX_so2 (X : xSt) : wX X 903 = some (.inr (9, false, [])) := rfl
theorem wX_904 (X : xSt) : wX X 904 = some (.inl (.object "java/lang/Object", false, 0, fun _ => .null)) := rfl
theorem wX_q0 (X : xSt) : wX X 910 = some (.inr (11, false, [.ref 920, .int 0])) := rfl
theorem wX_b0 (X : xSt) : wX X 920 = some (.inl (.byte, false, qLen 0, fun j => .int (qAt 0 j))) := rfl
theorem wX_q1 (X : xSt) : wX X 911 = some (.inr (11, false, [.ref 921, .int 0])) := rfl
theorem wX_b1 (X : xSt) : wX X 921 = some (.inl (.byte, false, qLen 1, fun j => .int (qAt 1 j))) := rfl
theorem wX_q2 (X : xSt) : wX X 912 = some (.inr (11, false, [.ref 922, .int 0])) := rfl
theorem wX_b2 (X : xSt) : wX X 922 = some (.inl (.byte, false, qLen 2, fun j => .int (qAt 2 j))) := rfl
theorem wX_q3 (X : xSt) : wX X 913 = some (.inr (11, false, [.ref 923, .int 0])) := rfl
theorem wX_b3 (X : xSt) : wX X 923 = some (.inl (.byte, false, qLen 3, fun j => .int (qAt 3 j))) := rfl
theorem wX_q4 (X : xSt) : wX X 914 = some (.inr (11, false, [.ref 924, .int 0])) := rfl
theorem wX_b4 (X : xSt) : wX X 924 = some (.inl (.byte, false, qLen 4, fun j => .int (qAt 4 j))) := rfl
theorem wX_q5 (X : xSt) : wX X 915 = some (.inr (11, false, [.ref 925, .int 0])) := rfl
theorem wX_b5 (X : xSt) : wX X 925 = some (.inl (.byte, false, qLen 5, fun j => .int (qAt 5 j))) := rfl
theorem wX_per (X : xSt) {d : Nat} (h1 : d < 64) (h : d < std X 0) : wX X (1088 + d) = some (.inr (4, true, [.ref (soN (X 3 d)), .int (X 4 d)])) := by
  unfold wX
  rw [show (1088 + d) / 64 = 17 from by omega, show (1088 + d) % 64 = d from by omega]
  exact if_pos h
theorem wX_per0 (X : xSt) {d : Nat} (h1 : d < 64) (h : std X 0 ≤ d) : wX X (1088 + d) = none := by
  unfold wX
  rw [show (1088 + d) / 64 = 17 from by omega, show (1088 + d) % 64 = d from by omega]
  exact if_neg (Nat.not_lt.mpr h)
theorem wX_pro (X : xSt) {d : Nat} (h1 : d < 64) (h : d < std X 1) : wX X (1152 + d) = some (.inr (5, true, [.int (X 6 d), .int (X 7 d), .int (X 8 d), .int (X 9 d)])) := by
  unfold wX
  rw [show (1152 + d) / 64 = 18 from by omega, show (1152 + d) % 64 = d from by omega]
  exact if_pos h
theorem wX_pro0 (X : xSt) {d : Nat} (h1 : d < 64) (h : std X 1 ≤ d) : wX X (1152 + d) = none := by
  unfold wX
  rw [show (1152 + d) / 64 = 18 from by omega, show (1152 + d) % 64 = d from by omega]
  exact if_neg (Nat.not_lt.mpr h)
theorem wX_ke (X : xSt) {d : Nat} (h1 : d < 64) (h : d < std X 2) : wX X (1216 + d) = some (.inl (.int, true, 2, cutI 2 (fun i => X (11 + i) d))) := by
  unfold wX
  rw [show (1216 + d) / 64 = 19 from by omega, show (1216 + d) % 64 = d from by omega]
  exact if_pos h
theorem wX_ke0 (X : xSt) {d : Nat} (h1 : d < 64) (h : std X 2 ≤ d) : wX X (1216 + d) = none := by
  unfold wX
  rw [show (1216 + d) / 64 = 19 from by omega, show (1216 + d) % 64 = d from by omega]
  exact if_neg (Nat.not_lt.mpr h)
theorem wX_ly (X : xSt) {d : Nat} (h1 : d < 64) (h : d < std X 3) : wX X (1280 + d) = some (.inl (.int, true, 3, cutI 3 (fun i => X (14 + i) d))) := by
  unfold wX
  rw [show (1280 + d) / 64 = 20 from by omega, show (1280 + d) % 64 = d from by omega]
  exact if_pos h
theorem wX_ly0 (X : xSt) {d : Nat} (h1 : d < 64) (h : std X 3 ≤ d) : wX X (1280 + d) = none := by
  unfold wX
  rw [show (1280 + d) / 64 = 20 from by omega, show (1280 + d) % 64 = d from by omega]
  exact if_neg (Nat.not_lt.mpr h)
theorem wX_lt (X : xSt) {d : Nat} (h1 : d < 64) (h : d < std X 4) : wX X (1344 + d) = some (.inl (.int, true, 3, cutI 3 (fun i => X (18 + i) d))) := by
  unfold wX
  rw [show (1344 + d) / 64 = 21 from by omega, show (1344 + d) % 64 = d from by omega]
  exact if_pos h
theorem wX_lt0 (X : xSt) {d : Nat} (h1 : d < 64) (h : std X 4 ≤ d) : wX X (1344 + d) = none := by
  unfold wX
  rw [show (1344 + d) / 64 = 21 from by omega, show (1344 + d) % 64 = d from by omega]
  exact if_neg (Nat.not_lt.mpr h)
theorem wX_sn (X : xSt) {d : Nat} (h1 : d < 64) (h : d < std X 5) : wX X (1408 + d) = some (.inl (.int, true, 3, cutI 3 (fun i => X (35 + i) d))) := by
  unfold wX
  rw [show (1408 + d) / 64 = 22 from by omega, show (1408 + d) % 64 = d from by omega]
  exact if_pos h
theorem wX_sn0 (X : xSt) {d : Nat} (h1 : d < 64) (h : std X 5 ≤ d) : wX X (1408 + d) = none := by
  unfold wX
  rw [show (1408 + d) / 64 = 22 from by omega, show (1408 + d) % 64 = d from by omega]
  exact if_neg (Nat.not_lt.mpr h)
theorem wX_far (X : xSt) {n : Nat} (h : 1472 ≤ n) : wX X n = none := by
  unfold wX
  generalize hb : n / 64 = b
  have h2 : 23 ≤ b := by omega
  obtain ⟨z, rfl⟩ := Nat.exists_eq_add_of_le h2
  rw [Nat.add_comm]
  rfl
theorem k_X0 : xCls 0 RX0 TX0 tyX0 24 := ⟨cl_X0, in_X0, tyX0_ok, nmX0⟩
theorem k_X2 : xCls 1 RX2 TX2 tyX2 7 := ⟨cl_X2, in_X2, tyX2_ok, nmX2⟩
theorem k_X3 : xCls 2 RX3 TX3 tyX3 7 := ⟨cl_X3, in_X3, tyX3_ok, nmX3⟩
theorem k_J2 : xCls 3 RJ2 TJ2 tyJ2 3 := ⟨cl_J2, in_J2, tyJ2_ok, nmJ2⟩
theorem k_X8 : xCls 4 RX8 TX8 tyX8 2 := ⟨cl_X8, in_X8, tyX8_ok, nmX8⟩
theorem k_X7 : xCls 5 RX7 TX7 tyX7 4 := ⟨cl_X7, in_X7, tyX7_ok, nmX7⟩
theorem k_X4 : xCls 6 RX4 TX4 tyX4 1 := ⟨cl_X4, in_X4, tyX4_ok, nmX4⟩
theorem k_X6 : xCls 10 RX6 TX6 tyX6 7 := ⟨cl_X6, in_X6, tyX6_ok, nmX6⟩
theorem k_J5 : xCls 11 RJ5 TJ5 tyJ5 2 := ⟨cl_J5, in_J5, tyJ5_ok, nmJ5⟩
section W1
variable {l : Launch} {M : xM} {Sp : xS} {pc : Nat} {ls : List (Option Value)} {st : List Value} {X : xSt} {k n : Nat}
theorem V_wX {X2 : xSt} (h : X2 = X) (kk : V l M Sp pc ls st (wX X2) k n) : V l M Sp pc ls st (wX X) k n := by subst h; exact kk

theorem Vx_put0 {index : Nat} {x : Int32} (hd : decode M.2.1 pc = .ok (.putfield index, 3)) (hlk : Cond.fieldLink M.1 index (TX0 0).1 (TX0 0).2.1 (TX0 0).2.2.1 ∈ lw_all) (kk : V l M Sp (pc + 3) ls st (wX (mwr X 44 0 x)) k n) : V l M Sp pc ls (.int x :: .ref 0 :: st) (wX X) k n := by
  refine V_putf k_X0 hd (by decide) hlk rfl (wX_obj X) (Nat.le_of_ble_eq_true rfl) (fun _ => rfl) (fun _ => rfl) ?_
  rw [wX_set (X' := mwr X 44 0 x) rfl (show _ = some (Sum.inr (0, true, (x0fs X).set 0 (.int x))) from rfl) (fun n hn => by rw [dep_44]; exact hn)]
  exact kk
theorem Vx_put12 {index : Nat} {x : Int32} (hd : decode M.2.1 pc = .ok (.putfield index, 3)) (hlk : Cond.fieldLink M.1 index (TX0 12).1 (TX0 12).2.1 (TX0 12).2.2.1 ∈ lw_all) (kk : V l M Sp (pc + 3) ls st (wX (mwr X 25 0 x)) k n) : V l M Sp pc ls (.int x :: .ref 0 :: st) (wX X) k n := by
  refine V_putf k_X0 hd (by decide) hlk rfl (wX_obj X) (Nat.le_of_ble_eq_true rfl) (fun _ => rfl) (fun _ => rfl) ?_
  rw [wX_set (X' := mwr X 25 0 x) rfl (show _ = some (Sum.inr (0, true, (x0fs X).set 12 (.int x))) from rfl) (fun n hn => by rw [dep_25]; exact hn)]
  exact kk
theorem Vx_put13 {index : Nat} {x : Int32} (hd : decode M.2.1 pc = .ok (.putfield index, 3)) (hlk : Cond.fieldLink M.1 index (TX0 13).1 (TX0 13).2.1 (TX0 13).2.2.1 ∈ lw_all) (kk : V l M Sp (pc + 3) ls st (wX (mwr X 26 0 x)) k n) : V l M Sp pc ls (.int x :: .ref 0 :: st) (wX X) k n := by
  refine V_putf k_X0 hd (by decide) hlk rfl (wX_obj X) (Nat.le_of_ble_eq_true rfl) (fun _ => rfl) (fun _ => rfl) ?_
  rw [wX_set (X' := mwr X 26 0 x) rfl (show _ = some (Sum.inr (0, true, (x0fs X).set 13 (.int x))) from rfl) (fun n hn => by rw [dep_26]; exact hn)]
  exact kk
theorem Vx_put14 {index : Nat} {x : Int32} (hd : decode M.2.1 pc = .ok (.putfield index, 3)) (hlk : Cond.fieldLink M.1 index (TX0 14).1 (TX0 14).2.1 (TX0 14).2.2.1 ∈ lw_all) (kk : V l M Sp (pc + 3) ls st (wX (mwr X 45 0 x)) k n) : V l M Sp pc ls (.int x :: .ref 0 :: st) (wX X) k n := by
  refine V_putf k_X0 hd (by decide) hlk rfl (wX_obj X) (Nat.le_of_ble_eq_true rfl) (fun _ => rfl) (fun _ => rfl) ?_
  rw [wX_set (X' := mwr X 45 0 x) rfl (show _ = some (Sum.inr (0, true, (x0fs X).set 14 (.int x))) from rfl) (fun n hn => by rw [dep_45]; exact hn)]
  exact kk
theorem Vx_put15 {index : Nat} {x : Int32} (hd : decode M.2.1 pc = .ok (.putfield index, 3)) (hlk : Cond.fieldLink M.1 index (TX0 15).1 (TX0 15).2.1 (TX0 15).2.2.1 ∈ lw_all) (kk : V l M Sp (pc + 3) ls st (wX (mwr X 45 1 x)) k n) : V l M Sp pc ls (.int x :: .ref 0 :: st) (wX X) k n := by
  refine V_putf k_X0 hd (by decide) hlk rfl (wX_obj X) (Nat.le_of_ble_eq_true rfl) (fun _ => rfl) (fun _ => rfl) ?_
  rw [wX_set (X' := mwr X 45 1 x) rfl (show _ = some (Sum.inr (0, true, (x0fs X).set 15 (.int x))) from rfl) (fun n hn => by rw [dep_45]; exact hn)]
  exact kk
theorem Vx_put16 {index : Nat} {x : Int32} (hd : decode M.2.1 pc = .ok (.putfield index, 3)) (hlk : Cond.fieldLink M.1 index (TX0 16).1 (TX0 16).2.1 (TX0 16).2.2.1 ∈ lw_all) (kk : V l M Sp (pc + 3) ls st (wX (mwr X 45 2 x)) k n) : V l M Sp pc ls (.int x :: .ref 0 :: st) (wX X) k n := by
  refine V_putf k_X0 hd (by decide) hlk rfl (wX_obj X) (Nat.le_of_ble_eq_true rfl) (fun _ => rfl) (fun _ => rfl) ?_
  rw [wX_set (X' := mwr X 45 2 x) rfl (show _ = some (Sum.inr (0, true, (x0fs X).set 16 (.int x))) from rfl) (fun n hn => by rw [dep_45]; exact hn)]
  exact kk
theorem Vx_put17 {index : Nat} {x : Int32} (hd : decode M.2.1 pc = .ok (.putfield index, 3)) (hlk : Cond.fieldLink M.1 index (TX0 17).1 (TX0 17).2.1 (TX0 17).2.2.1 ∈ lw_all) (kk : V l M Sp (pc + 3) ls st (wX (mwr X 45 3 x)) k n) : V l M Sp pc ls (.int x :: .ref 0 :: st) (wX X) k n := by
  refine V_putf k_X0 hd (by decide) hlk rfl (wX_obj X) (Nat.le_of_ble_eq_true rfl) (fun _ => rfl) (fun _ => rfl) ?_
  rw [wX_set (X' := mwr X 45 3 x) rfl (show _ = some (Sum.inr (0, true, (x0fs X).set 17 (.int x))) from rfl) (fun n hn => by rw [dep_45]; exact hn)]
  exact kk
theorem Vx_put20 {index : Nat} {x : Int32} (hd : decode M.2.1 pc = .ok (.putfield index, 3)) (hlk : Cond.fieldLink M.1 index (TX0 20).1 (TX0 20).2.1 (TX0 20).2.2.1 ∈ lw_all) (kk : V l M Sp (pc + 3) ls st (wX (mwr X 45 4 x)) k n) : V l M Sp pc ls (.int x :: .ref 0 :: st) (wX X) k n := by
  refine V_putf k_X0 hd (by decide) hlk rfl (wX_obj X) (Nat.le_of_ble_eq_true rfl) (fun _ => rfl) (fun _ => rfl) ?_
  rw [wX_set (X' := mwr X 45 4 x) rfl (show _ = some (Sum.inr (0, true, (x0fs X).set 20 (.int x))) from rfl) (fun n hn => by rw [dep_45]; exact hn)]
  exact kk
theorem Vx_ld_coats {i : Int32} {x : Nat} (hd : decode M.2.1 pc = .ok (.iaload, 1)) (hi : i = nI x) (hx : x < 8) (kk : V l M Sp (pc + 1) ls (.int (X 27 x) :: st) (wX X) k n) : V l M Sp pc ls (.int i :: .ref 320 :: st) (wX X) k n := by
  subst hi
  exact V_iald hd (wX_coats X) (vp_in_nI hx (by decide)) (by rw [nI_clamp (by omega)]; exact cutI_at hx) kk
theorem Vx_st_coats {i v : Int32} {x : Nat} (hd : decode M.2.1 pc = .ok (.iastore, 1)) (hi : i = nI x) (hx : x < 8) (kk : V l M Sp (pc + 1) ls st (wX (mwr X 27 x v)) k n) : V l M Sp pc ls (.int v :: .int i :: .ref 320 :: st) (wX X) k n := by
  subst hi
  refine V_iast hd (wX_coats X) (vp_in_nI hx (by decide)) ?_
  rw [nI_clamp (by omega), cutI_up hx, wX_set (X' := mwr X 27 x v) (j := 27) (i := x) (v := v) rfl ((wX_coats _).trans (congrArg (fun z => some (Sum.inl (FieldType.int, true, 8, z))) (cutI_congr fun q _ => mwr_ite X 27 x q v))) (fun n hn => by rw [dep_27]; omega)]
  exact kk
theorem Vx_ld_torn {i : Int32} {x : Nat} (hd : decode M.2.1 pc = .ok (.iaload, 1)) (hi : i = nI x) (hx : x < 8) (kk : V l M Sp (pc + 1) ls (.int (X 28 x) :: st) (wX X) k n) : V l M Sp pc ls (.int i :: .ref 321 :: st) (wX X) k n := by
  subst hi
  exact V_iald hd (wX_torn X) (vp_in_nI hx (by decide)) (by rw [nI_clamp (by omega)]; exact cutI_at hx) kk
theorem Vx_st_torn {i v : Int32} {x : Nat} (hd : decode M.2.1 pc = .ok (.iastore, 1)) (hi : i = nI x) (hx : x < 8) (kk : V l M Sp (pc + 1) ls st (wX (mwr X 28 x v)) k n) : V l M Sp pc ls (.int v :: .int i :: .ref 321 :: st) (wX X) k n := by
  subst hi
  refine V_iast hd (wX_torn X) (vp_in_nI hx (by decide)) ?_
  rw [nI_clamp (by omega), cutI_up hx, wX_set (X' := mwr X 28 x v) (j := 28) (i := x) (v := v) rfl ((wX_torn _).trans (congrArg (fun z => some (Sum.inl (FieldType.int, true, 8, z))) (cutI_congr fun q _ => mwr_ite X 28 x q v))) (fun n hn => by rw [dep_28]; omega)]
  exact kk
theorem Vx_ld_states {i : Int32} {x : Nat} (hd : decode M.2.1 pc = .ok (.iaload, 1)) (hi : i = nI x) (hx : x < 10) (kk : V l M Sp (pc + 1) ls (.int (X 29 x) :: st) (wX X) k n) : V l M Sp pc ls (.int i :: .ref 322 :: st) (wX X) k n := by
  subst hi
  exact V_iald hd (wX_states X) (vp_in_nI hx (by decide)) (by rw [nI_clamp (by omega)]; exact cutI_at hx) kk
theorem Vx_st_states {i v : Int32} {x : Nat} (hd : decode M.2.1 pc = .ok (.iastore, 1)) (hi : i = nI x) (hx : x < 10) (kk : V l M Sp (pc + 1) ls st (wX (mwr X 29 x v)) k n) : V l M Sp pc ls (.int v :: .int i :: .ref 322 :: st) (wX X) k n := by
  subst hi
  refine V_iast hd (wX_states X) (vp_in_nI hx (by decide)) ?_
  rw [nI_clamp (by omega), cutI_up hx, wX_set (X' := mwr X 29 x v) (j := 29) (i := x) (v := v) rfl ((wX_states _).trans (congrArg (fun z => some (Sum.inl (FieldType.int, true, 10, z))) (cutI_congr fun q _ => mwr_ite X 29 x q v))) (fun n hn => by rw [dep_29]; omega)]
  exact kk
theorem Vx_ld_crow {i : Int32} {x d : Nat} (hd : decode M.2.1 pc = .ok (.iaload, 1)) (hr : d < 24) (hi : i = nI x) (hx : x < 8) (kk : V l M Sp (pc + 1) ls (.int (X 30 (8 * d + x)) :: st) (wX X) k n) : V l M Sp pc ls (.int i :: .ref (384 + d) :: st) (wX X) k n := by
  subst hi
  exact V_iald hd (wX_crow X hr) (vp_in_nI hx (by decide)) (by rw [nI_clamp (by omega)]; exact cutI_at hx) kk
theorem Vx_st_crow {i v : Int32} {x d : Nat} (hd : decode M.2.1 pc = .ok (.iastore, 1)) (hr : d < 24) (hi : i = nI x) (hx : x < 8) (kk : V l M Sp (pc + 1) ls st (wX (mwr X 30 (8 * d + x) v)) k n) : V l M Sp pc ls (.int v :: .int i :: .ref (384 + d) :: st) (wX X) k n := by
  subst hi
  refine V_iast hd (wX_crow X hr) (vp_in_nI hx (by decide)) ?_
  rw [nI_clamp (by omega), cutI_up hx, wX_set (X' := mwr X 30 (8 * d + x) v) (j := 30) (i := 8 * d + x) (v := v) rfl ((wX_crow _ hr).trans (congrArg (fun z => some (Sum.inl (FieldType.int, true, 8, z))) (cutI_congr fun q _ => mwr_ite2 X 30 (8 * d) x q v))) (fun n hn => by rw [dep_30]; omega)]
  exact kk
theorem Vx_ld_trow {i : Int32} {x d : Nat} (hd : decode M.2.1 pc = .ok (.iaload, 1)) (hr : d < 24) (hi : i = nI x) (hx : x < 8) (kk : V l M Sp (pc + 1) ls (.int (X 31 (8 * d + x)) :: st) (wX X) k n) : V l M Sp pc ls (.int i :: .ref (448 + d) :: st) (wX X) k n := by
  subst hi
  exact V_iald hd (wX_trow X hr) (vp_in_nI hx (by decide)) (by rw [nI_clamp (by omega)]; exact cutI_at hx) kk
theorem Vx_st_trow {i v : Int32} {x d : Nat} (hd : decode M.2.1 pc = .ok (.iastore, 1)) (hr : d < 24) (hi : i = nI x) (hx : x < 8) (kk : V l M Sp (pc + 1) ls st (wX (mwr X 31 (8 * d + x) v)) k n) : V l M Sp pc ls (.int v :: .int i :: .ref (448 + d) :: st) (wX X) k n := by
  subst hi
  refine V_iast hd (wX_trow X hr) (vp_in_nI hx (by decide)) ?_
  rw [nI_clamp (by omega), cutI_up hx, wX_set (X' := mwr X 31 (8 * d + x) v) (j := 31) (i := 8 * d + x) (v := v) rfl ((wX_trow _ hr).trans (congrArg (fun z => some (Sum.inl (FieldType.int, true, 8, z))) (cutI_congr fun q _ => mwr_ite2 X 31 (8 * d) x q v))) (fun n hn => by rw [dep_31]; omega)]
  exact kk
theorem Vx_ld_srow {i : Int32} {x d : Nat} (hd : decode M.2.1 pc = .ok (.iaload, 1)) (hr : d < 24) (hi : i = nI x) (hx : x < 10) (kk : V l M Sp (pc + 1) ls (.int (X 32 (12 * d + x)) :: st) (wX X) k n) : V l M Sp pc ls (.int i :: .ref (512 + d) :: st) (wX X) k n := by
  subst hi
  exact V_iald hd (wX_srow X hr) (vp_in_nI hx (by decide)) (by rw [nI_clamp (by omega)]; exact cutI_at hx) kk
theorem Vx_st_srow {i v : Int32} {x d : Nat} (hd : decode M.2.1 pc = .ok (.iastore, 1)) (hr : d < 24) (hi : i = nI x) (hx : x < 10) (kk : V l M Sp (pc + 1) ls st (wX (mwr X 32 (12 * d + x) v)) k n) : V l M Sp pc ls (.int v :: .int i :: .ref (512 + d) :: st) (wX X) k n := by
  subst hi
  refine V_iast hd (wX_srow X hr) (vp_in_nI hx (by decide)) ?_
  rw [nI_clamp (by omega), cutI_up hx, wX_set (X' := mwr X 32 (12 * d + x) v) (j := 32) (i := 12 * d + x) (v := v) rfl ((wX_srow _ hr).trans (congrArg (fun z => some (Sum.inl (FieldType.int, true, 10, z))) (cutI_congr fun q _ => mwr_ite2 X 32 (12 * d) x q v))) (fun n hn => by rw [dep_32]; omega)]
  exact kk
theorem Vx_ld_had {i : Int32} {x d : Nat} (hd : decode M.2.1 pc = .ok (.iaload, 1)) (hr : d < 10) (hi : i = nI x) (hx : x < 24) (kk : V l M Sp (pc + 1) ls (.int (X 38 (24 * d + x)) :: st) (wX X) k n) : V l M Sp pc ls (.int i :: .ref (576 + d) :: st) (wX X) k n := by
  subst hi
  exact V_iald hd (wX_had X hr) (vp_in_nI hx (by decide)) (by rw [nI_clamp (by omega)]; exact cutI_at hx) kk
theorem Vx_st_had {i v : Int32} {x d : Nat} (hd : decode M.2.1 pc = .ok (.iastore, 1)) (hr : d < 10) (hi : i = nI x) (hx : x < 24) (kk : V l M Sp (pc + 1) ls st (wX (mwr X 38 (24 * d + x) v)) k n) : V l M Sp pc ls (.int v :: .int i :: .ref (576 + d) :: st) (wX X) k n := by
  subst hi
  refine V_iast hd (wX_had X hr) (vp_in_nI hx (by decide)) ?_
  rw [nI_clamp (by omega), cutI_up hx, wX_set (X' := mwr X 38 (24 * d + x) v) (j := 38) (i := 24 * d + x) (v := v) rfl ((wX_had _ hr).trans (congrArg (fun z => some (Sum.inl (FieldType.int, true, 24, z))) (cutI_congr fun q _ => mwr_ite2 X 38 (24 * d) x q v))) (fun n hn => by rw [dep_38]; omega)]
  exact kk
theorem Vx_ld_spare {i : Int32} {x d : Nat} (hd : decode M.2.1 pc = .ok (.iaload, 1)) (hr : d < 8) (hi : i = nI x) (hx : x < 2) (kk : V l M Sp (pc + 1) ls (.int (X 51 (2 * d + x)) :: st) (wX X) k n) : V l M Sp pc ls (.int i :: .ref (640 + d) :: st) (wX X) k n := by
  subst hi
  exact V_iald hd (wX_spare X hr) (vp_in_nI hx (by decide)) (by rw [nI_clamp (by omega)]; exact cutI_at hx) kk
theorem Vx_st_spare {i v : Int32} {x d : Nat} (hd : decode M.2.1 pc = .ok (.iastore, 1)) (hr : d < 8) (hi : i = nI x) (hx : x < 2) (kk : V l M Sp (pc + 1) ls st (wX (mwr X 51 (2 * d + x) v)) k n) : V l M Sp pc ls (.int v :: .int i :: .ref (640 + d) :: st) (wX X) k n := by
  subst hi
  refine V_iast hd (wX_spare X hr) (vp_in_nI hx (by decide)) ?_
  rw [nI_clamp (by omega), cutI_up hx, wX_set (X' := mwr X 51 (2 * d + x) v) (j := 51) (i := 2 * d + x) (v := v) rfl ((wX_spare _ hr).trans (congrArg (fun z => some (Sum.inl (FieldType.int, true, 2, z))) (cutI_congr fun q _ => mwr_ite2 X 51 (2 * d) x q v))) (fun n hn => by rw [dep_51]; omega)]
  exact kk
theorem Vx_aa_coatsBy {i : Int32} {x : Nat} (hd : decode M.2.1 pc = .ok (.aaload, 1)) (hi : i = nI x) (hx : x < 24) (kk : V l M Sp (pc + 1) ls (.ref (384 + x) :: st) (wX X) k n) : V l M Sp pc ls (.int i :: .ref 704 :: st) (wX X) k n := by
  subst hi
  exact V_aald hd rfl (wX_coatsBy X) (vp_in_nI hx (by decide)) (by rw [nI_clamp (by omega)]) kk
theorem Vx_aa_tornBy {i : Int32} {x : Nat} (hd : decode M.2.1 pc = .ok (.aaload, 1)) (hi : i = nI x) (hx : x < 24) (kk : V l M Sp (pc + 1) ls (.ref (448 + x) :: st) (wX X) k n) : V l M Sp pc ls (.int i :: .ref 705 :: st) (wX X) k n := by
  subst hi
  exact V_aald hd rfl (wX_tornBy X) (vp_in_nI hx (by decide)) (by rw [nI_clamp (by omega)]) kk
theorem Vx_aa_statesBy {i : Int32} {x : Nat} (hd : decode M.2.1 pc = .ok (.aaload, 1)) (hi : i = nI x) (hx : x < 24) (kk : V l M Sp (pc + 1) ls (.ref (512 + x) :: st) (wX X) k n) : V l M Sp pc ls (.int i :: .ref 706 :: st) (wX X) k n := by
  subst hi
  exact V_aald hd rfl (wX_statesBy X) (vp_in_nI hx (by decide)) (by rw [nI_clamp (by omega)]) kk
theorem Vx_aa_hads {i : Int32} {x : Nat} (hd : decode M.2.1 pc = .ok (.aaload, 1)) (hi : i = nI x) (hx : x < 10) (kk : V l M Sp (pc + 1) ls (.ref (576 + x) :: st) (wX X) k n) : V l M Sp pc ls (.int i :: .ref 707 :: st) (wX X) k n := by
  subst hi
  exact V_aald hd rfl (wX_hads X) (vp_in_nI hx (by decide)) (by rw [nI_clamp (by omega)]) kk
theorem Vx_aa_spares {i : Int32} {x : Nat} (hd : decode M.2.1 pc = .ok (.aaload, 1)) (hi : i = nI x) (hx : x < 8) (kk : V l M Sp (pc + 1) ls (.ref (640 + x) :: st) (wX X) k n) : V l M Sp pc ls (.int i :: .ref 709 :: st) (wX X) k n := by
  subst hi
  exact V_aald hd rfl (wX_spares X) (vp_in_nI hx (by decide)) (by rw [nI_clamp (by omega)]) kk
theorem Vx_aa_sheets {i : Int32} {x : Nat} (hd : decode M.2.1 pc = .ok (.aaload, 1)) (hi : i = nI x) (hx : x < 4) (kk : V l M Sp (pc + 1) ls (.ref (768 + x) :: st) (wX X) k n) : V l M Sp pc ls (.int i :: .ref 710 :: st) (wX X) k n := by
  subst hi
  exact V_aald hd rfl (wX_sheets X) (vp_in_nI hx (by decide)) (by rw [nI_clamp (by omega)]) kk
end W1
theorem soN_b (x : Int32) : 901 ≤ soN x ∧ soN x < 904 := by
  unfold soN
  by_cases a : x = 0
  · rw [if_pos a]; omega
  · rw [if_neg a]
    by_cases b : x = nI 1
    · rw [if_pos b]; omega
    · rw [if_neg b]; omega
def tgt (X : xSt) (a : Nat) : Prop := (64 ≤ a ∧ a < 256) ∨ (∃ q, q < 6 ∧ a = 256 + q ∧ X 50 q ≠ 0) ∨ (262 ≤ a ∧ a < 832) ∨ (∃ s, s < 4 ∧ a = 832 + s ∧ X 39 s ≠ 0) ∨ (836 ≤ a ∧ a < 1088) ∨ (∃ q i, q < 6 ∧ i < cnt X q ∧ a = 1088 + 64 * q + i) ∨ (∃ i, i < 8 ∧ X 52 i ≠ 0 ∧ ((X 52 i = nI 1 ∧ a = 1472 + i) ∨ (X 52 i ≠ nI 1 ∧ a = 1216 + i)))
theorem xnr_cutI {a N M : Nat} {f : Nat → Int32} {ty : FieldType} {ow : Bool} : xnr a (.inl (ty, ow, M, cutI N f)) := by
  intro j _ e
  dsimp only [cutI] at e
  by_cases h : j < N
  · rw [if_pos h] at e; cases e
  · rw [if_neg h] at e; cases e
theorem xnr_refs {a N b : Nat} {ty : FieldType} {ow : Bool} (h : a < b ∨ b + N ≤ a) : xnr a (.inl (ty, ow, N, fun i => .ref (b + i))) := by
  intro j hj e
  have e2 : b + j = a := Value.ref.inj e
  have h3 : j < N := hj
  omega
theorem xnr_o {a ci : Nat} {ow : Bool} {fs : List Value} (h : ∀ v ∈ fs, v = .ref a → False) : xnr a (.inr (ci, ow, fs)) := fun v hv e => h v hv e
theorem nrI {a : Nat} {x : Int32} (e : Value.int x = .ref a) : False := by cases e
theorem nrR {a b : Nat} (h : b ≠ a) (e : Value.ref b = .ref a) : False := h (Value.ref.inj e)
theorem nrN {a : Nat} (e : Value.null = .ref a) : False := by cases e
theorem nrc {a : Nat} {v : Value} {vs : List Value} (h1 : v = .ref a → False) (h2 : ∀ u ∈ vs, u = .ref a → False) : ∀ u ∈ v :: vs, u = .ref a → False := by
  intro u hu e
  cases hu with
  | head => exact h1 e
  | tail _ h => exact h2 u h e
theorem nr0 {a : Nat} : ∀ u ∈ ([] : List Value), u = .ref a → False := fun _ h => nomatch h
theorem xnr_if {a : Nat} {C : Prop} [Decidable C] {x c : xC} (h : (if C then some x else none) = some c) (hx : C → xnr a x) : xnr a c := by
  by_cases e : C
  · rw [if_pos e] at h; cases h; exact hx e
  · rw [if_neg e] at h; cases h
theorem wX_nr {X : xSt} {a n : Nat} {c : xC} (hk : cnt X 2 ≤ 8) (ha : ¬ tgt X a) (h : wX X n = some c) : xnr a c := by
  have t1 : ∀ b, ((64 ≤ b ∧ b < 256) ∨ (262 ≤ b ∧ b < 832) ∨ (836 ≤ b ∧ b < 1088)) → b ≠ a := by
    intro b hb e
    subst e
    apply ha
    rcases hb with h | h | h
    · exact .inl h
    · exact .inr (.inr (.inl h))
    · exact .inr (.inr (.inr (.inr (.inl h))))
  have t2 : ∀ b N, (∀ i, i < N → ((64 ≤ b + i ∧ b + i < 256) ∨ (262 ≤ b + i ∧ b + i < 832) ∨ (836 ≤ b + i ∧ b + i < 1088))) → (a < b ∨ b + N ≤ a) := by
    intro b N hb
    by_cases e : a < b ∨ b + N ≤ a
    · exact e
    · exfalso
      have := hb (a - b) (by omega)
      exact t1 (b + (a - b)) this (by omega)
  unfold wX at h
  generalize n / 64 = b at h
  generalize n % 64 = d at h
  match b, h with
  | 0, h =>
    exact xnr_if (C := d = 0) h fun _ => xnr_o (nrc (nrI) (nrc (nrR (t1 _ (by omega))) (nrc (nrR (t1 _ (by omega))) (nrc (nrR (t1 _ (by omega))) (nrc (nrR (t1 _ (by omega))) (nrc (nrR (t1 _ (by omega))) (nrc (nrR (t1 _ (by omega))) (nrc (nrR (t1 _ (by omega))) (nrc (nrR (t1 _ (by omega))) (nrc (nrR (t1 _ (by omega))) (nrc (nrR (t1 _ (by omega))) (nrc (nrR (t1 _ (by omega))) (nrc (nrI) (nrc (nrI) (nrc (nrI) (nrc (nrI) (nrc (nrI) (nrc (nrI) (nrc (nrR (t1 _ (by omega))) (nrc (nrR (t1 _ (by omega))) (nrc (nrI) (nrc (nrR (t1 _ (by omega))) (nrc (nrR (t1 _ (by omega))) (nrc (nrR (t1 _ (by omega))) (nr0)))))))))))))))))))))))))
  | 1, h =>
    exact xnr_if (C := d < 2) h fun hd => xnr_o (nrc (nrR (t1 _ (by omega))) (nrc (nrI) (nrc (nrI) (nrc (nrI) (nrc (nrI) (nrc (nrI) (nrc (nrR (t1 _ (by omega))) (nr0))))))))
  | 2, h =>
    exact xnr_if (C := d < 2) h fun _ => xnr_cutI
  | 3, h =>
    exact xnr_if (C := d < 6) h fun hd => xnr_o (nrc nrI (nrc (nrR (by by_cases e : X 50 d = 0; rw [if_pos e]; exact t1 _ (by omega); rw [if_neg e]; exact fun z => ha (.inr (.inl ⟨d, hd, z.symm, e⟩)))) (nrc nrI nr0)))
  | 4, h =>
    exact xnr_if (C := d < 6 ∧ X 50 d ≠ 0) h fun hd => by
      intro j _ e
      dsimp only at e
      by_cases g : j < cnt X d
      · rw [if_pos g] at e
        have e := Value.ref.inj e
        unfold eln at e
        by_cases g2 : d = 2 ∧ X 53 0 = nI 1
        · rw [if_pos g2] at e
          rw [g2.1] at g
          exact t1 _ (by omega) e
        · rw [if_neg g2] at e
          exact ha (.inr (.inr (.inr (.inr (.inr (.inl ⟨d, j, hd.1, g, e.symm⟩))))))
      · rw [if_neg g] at e; cases e
  | 5, h =>
    exact xnr_if (C := d < 3) h fun _ => xnr_cutI
  | 6, h =>
    exact xnr_if (C := d < 24) h fun _ => xnr_cutI
  | 7, h =>
    exact xnr_if (C := d < 24) h fun _ => xnr_cutI
  | 8, h =>
    exact xnr_if (C := d < 24) h fun _ => xnr_cutI
  | 9, h =>
    exact xnr_if (C := d < 10) h fun _ => xnr_cutI
  | 10, h =>
    exact xnr_if (C := d < 8) h fun _ => xnr_cutI
  | 11, h =>
    match d, h with
    | 0, h => cases h; exact xnr_refs (t2 _ _ (fun i hi => by omega))
    | 1, h => cases h; exact xnr_refs (t2 _ _ (fun i hi => by omega))
    | 2, h => cases h; exact xnr_refs (t2 _ _ (fun i hi => by omega))
    | 3, h => cases h; exact xnr_refs (t2 _ _ (fun i hi => by omega))
    | 4, h =>
      cases h
      intro j hj e
      have hj : j < 8 := hj
      dsimp only [cutV] at e
      rw [if_pos hj] at e
      unfold asV at e
      by_cases g : X 52 j = 0
      · rw [if_pos g] at e; cases e
      · rw [if_neg g] at e
        by_cases g1 : X 52 j = nI 1
        · rw [if_pos g1] at e
          exact ha (.inr (.inr (.inr (.inr (.inr (.inr ⟨j, hj, g, .inl ⟨g1, (Value.ref.inj e).symm⟩⟩))))))
        · rw [if_neg g1] at e
          exact ha (.inr (.inr (.inr (.inr (.inr (.inr ⟨j, hj, g, .inr ⟨g1, (Value.ref.inj e).symm⟩⟩))))))
    | 5, h => cases h; exact xnr_refs (t2 _ _ (fun i hi => by omega))
    | 6, h => cases h; exact xnr_refs (t2 _ _ (fun i hi => by omega))
    | d + 7, h => cases h
  | 12, h =>
    exact xnr_if (C := d < 4) h fun hd => xnr_o (nrc (by by_cases e : X 39 d = 0; rw [if_pos e]; exact nrN; rw [if_neg e]; exact nrR (fun z => ha (.inr (.inr (.inr (.inl ⟨d, hd, z.symm, e⟩)))))) nr0)
  | 13, h =>
    exact xnr_if (C := d < 4 ∧ X 39 d ≠ 0) h fun _ => xnr_cutI
  | 14, h =>
    replace h : cl14 X d = some c := h
    unfold cl14 at h
    by_cases e4 : d = 4
    · rw [if_pos e4] at h; cases h; exact xnr_refs (t2 _ _ (fun i hi => by omega))
    rw [if_neg e4] at h
    by_cases e5 : 4 < d ∧ d < 8
    · rw [if_pos e5] at h; cases h; exact xnr_o nr0
    rw [if_neg e5] at h
    by_cases e8 : d = 8
    · rw [if_pos e8] at h; cases h; exact fun j _ e => nomatch e
    rw [if_neg e8] at h
    by_cases e9 : 13 < d ∧ d < 20
    · rw [if_pos e9] at h; cases h; exact xnr_o (nrc (nrR (t1 _ (by omega))) (nrc nrI nr0))
    rw [if_neg e9] at h
    by_cases e10 : 23 < d ∧ d < 30
    · rw [if_pos e10] at h; cases h; exact fun j _ e => nomatch e
    · rw [if_neg e10] at h; cases h
  | 15, h =>
    cases h
  | 16, h =>
    cases h
  | 17, h =>
    exact xnr_if (C := d < std X 0) h fun _ => xnr_o (nrc (nrR (by have := soN_b (X 3 d); exact t1 _ (by omega))) (nrc nrI nr0))
  | 18, h =>
    exact xnr_if (C := d < std X 1) h fun _ => xnr_o (nrc nrI (nrc nrI (nrc nrI (nrc nrI nr0))))
  | 19, h =>
    exact xnr_if (C := d < std X 2) h fun _ => xnr_cutI
  | 20, h =>
    exact xnr_if (C := d < std X 3) h fun _ => xnr_cutI
  | 21, h =>
    exact xnr_if (C := d < std X 4) h fun _ => xnr_cutI
  | 22, h =>
    exact xnr_if (C := d < std X 5) h fun _ => xnr_cutI
  | b + 23, h => cases h
