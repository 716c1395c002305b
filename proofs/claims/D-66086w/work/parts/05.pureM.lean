/-! the pure functions of the model: what its methods compute, over XS. Scalars: 0 energy, 1 slots, 2 spent, 3 cut, 4 given, 5 fails, 6 abandoned, 7 noting, 8 applied, 9 next, 10 bound, 11 done, 12 many, 13 aired, 14 sealed, 15 task, 16 heard, 17 stage, 18 phase, 19 thrown. Arrays: 0 kept, 1 wear, 2 where, 3 what, 4 register, 5 sensor, 6 estimate, 7 failures, 8 airNumber, 9 airPayload, 10 farPayload, 11 farNumber, 12 code, 13 size -/
abbrev ix (x : Int32) : Nat := x.toNatClampNeg
def f_find (w : Nat → Int32) (a : Int32) : Nat → Nat → Int32
  | 0, _ => -1
  | n + 1, k => if w k = a then nI k else f_find w a n (k + 1)
def f_place (S : XS) (a : Int32) : Int32 := f_find (S.2 2) a (ix (S.1 12)) 0
def f_write (S : XS) (a v : Int32) : XS := xa (xa S 0 (ix a) v) 1 (ix a) (S.2 1 (ix a) + 1)
def f_see (S : XS) (a : Int32) : Int32 := if f_place S a = -1 then S.2 0 (ix a) else S.2 3 (ix (f_place S a))
def f_put (S : XS) (a v : Int32) : XS := if f_place S a = -1 then xa (xa (xs S 12 (S.1 12 + 1)) 2 (ix (S.1 12)) a) 3 (ix (S.1 12)) v else xa S 3 (ix (f_place S a)) v
def f_more (S : XS) (a b : Int32) : Int32 := if f_place S a = -1 then (if b = a then 1 else if f_place S b = -1 then 1 + 1 else 1) else (if b = a then 0 else if f_place S b = -1 then 0 + 1 else 0)
def f_room (S : XS) (a b : Int32) : Int32 := if 38 < S.1 12 + f_more S a b then 0 else 1
def f_clr (S : XS) : Nat → Nat → XS
  | 0, _ => S
  | n + 1, k => f_clr (xa S 4 k 0) n (k + 1)
def f_end (S : XS) : XS := xs (xs (xs (xs (xs (f_clr S 8 0) 9 0) 2 0) 10 (-1)) 12 0) 11 0
def f_most (S : XS) (t : Int32) : Int32 := if S.2 6 (ix t) ≤ S.1 2 then S.1 2 else S.2 6 (ix t)
def f_twice (m : Int32) : Int32 := if 2 * m ≤ 1940 then 2 * m else 1940
/-- a failure that counts -/
def f_count1 (S : XS) (t : Int32) : XS := xa S 7 (ix t) (S.2 7 (ix t) + 1)
def f_count2 (S : XS) (t : Int32) : XS := xa S 6 (ix t) (f_twice (f_most S t))
def f_count3 (S : XS) (t : Int32) : XS := if S.2 7 (ix t) = 12 then xs S 4 t else S
def f_count (S : XS) (t : Int32) : XS := f_count3 (f_count2 (f_count1 S t) t) t
def f_fail1 (S : XS) : XS := if S.1 18 = 3 then f_count S (S.2 0 0) else if S.1 18 = 4 then (if S.2 0 2 = 0 then f_count S (S.2 0 0) else S) else S
def f_fail (S : XS) : XS := f_end (xs (f_fail1 (xs S 5 (S.1 5 + 1))) 18 0)
def f_paysR (S : XS) (c : Int32) : Int32 := if c ≤ S.1 0 then 1 else 0
def f_spend (S : XS) (c : Int32) : XS := if S.1 18 = 3 then xs S 2 (S.1 2 + c) else if S.1 18 = 4 then xs S 2 (S.1 2 + c) else S
def f_pays (S : XS) (c : Int32) : XS := if c ≤ S.1 0 then f_spend (xs S 0 (S.1 0 - c)) c else f_fail S
def f_isTask (t : Int32) : Int32 := if t < 0 then 0 else if 16 ≤ t then 0 else 1
def f_op (w : Int32) : Int32 := jushr w 24
def f_a (w : Int32) : Int32 := jushr w 16 &&& 255
def f_b (w : Int32) : Int32 := jushr w 8 &&& 255
def f_c (w : Int32) : Int32 := w &&& 255
def f_cost (o : Int32) : Int32 := if o = 4 then 4 else if o = 8 ∨ o = 9 ∨ o = 10 ∨ o = 11 then 2 else if o = 12 ∨ o = 13 ∨ o = 15 then 3 else if o = 14 then 10 else 1
/-- a small count in scalar 12 -/
def pOk (n : Nat) (S : XS) : Prop := ∃ p, p ≤ n ∧ S.1 12 = nI p
theorem f_find_in (w : Nat → Int32) (a : Int32) : ∀ n k, f_find w a n k = -1 ∨ ∃ j, k ≤ j ∧ j < k + n ∧ f_find w a n k = nI j ∧ w j = a
  | 0, _ => Or.inl rfl
  | n + 1, k => by
    unfold f_find
    split
    · rename_i e
      exact Or.inr ⟨k, Nat.le_refl _, by omega, rfl, e⟩
    · rcases f_find_in w a n (k + 1) with h | ⟨j, h1, h2, h3⟩
      · exact Or.inl h
      · exact Or.inr ⟨j, by omega, by omega, h3⟩
theorem f_place_in {S : XS} {a : Int32} {n : Nat} (hp : pOk n S) (hn : n ≤ 40) (h : ¬ f_place S a = -1) : vp_in (f_place S a) 40 := by
  obtain ⟨p, h1, h2⟩ := hp
  rcases f_find_in (S.2 2) a (ix (S.1 12)) 0 with e | ⟨j, e1, e2, e3, -⟩
  · exact absurd e h
  · have : ix (S.1 12) = p := by rw [h2]; exact nI_clamp (by omega)
    unfold f_place
    rw [e3]
    exact vp_in_nI (by omega) (by decide)
theorem pOk_in {n : Nat} {S : XS} (h : pOk n S) {N : Nat} (hn : n < N) (hN : N < 2 ^ 31) : vp_in (S.1 12) N := by
  obtain ⟨p, h1, h2⟩ := h
  rw [h2]
  exact vp_in_nI (by omega) hN
theorem vi {x : Int32} {n : Nat} (a : 0 ≤ x.toInt) (b : x.toInt < n) : vp_in x n := vp_in_iff.mpr ⟨a, b⟩
section YR2
variable {K : YK} {cc : ByteArray} {own : String} {nL d : Nat} {ws : va_W} {k n : Nat} {lv : List Value} {pc pc' tgt : Nat} {st : List Value} {off : Int} {G : List GC} {h : Nat → Nat} {S : XS} {ex : va_W}
theorem y_iinc1 (o : Y K cc own nL d) {i : Nat} {x : Int32} (hh : dk cc pc (.iinc i 1) 3 pc') (hx : lv[i]? = some (.int x)) (hn : i < nL) (kk : Vw K nL ws k n (y_st lv i (.int (x + 1))) pc' st) : Vw K nL ws k n lv pc st := y_iinc o hh hx rfl hn kk
theorem y_ialdc (o : Y K cc own nL d) {q j len j0 : Nat} {i : Int32} (F : aG G q j len) (dd : dk cc pc .iaload 1 pc') (hin : vp_in i len) (hj : i.toNatClampNeg = j0) (kk : Vw K nL (g_W (kd K).1 G h S ++ ex) k n lv pc' (.int (S.2 j j0) :: st)) : Vw K nL (g_W (kd K).1 G h S ++ ex) k n lv pc (.int i :: .ref (h q) :: st) := by
  subst hj
  exact y_iald o F dd hin kk
theorem y_iastc (o : Y K cc own nL d) {q j len j0 : Nat} {i v : Int32} (F : aG G q j len) (dd : dk cc pc .iastore 1 pc') (hin : vp_in i len) (hj : i.toNatClampNeg = j0) (kk : Vw K nL (g_W (kd K).1 G h (xa S j j0 v) ++ ex) k n lv pc' st) : Vw K nL (g_W (kd K).1 G h S ++ ex) k n lv pc (.int v :: .int i :: .ref (h q) :: st) := by
  subst hj
  exact y_iast o F dd hin kk
theorem y_lv {lv' : List Value} (e : lv = lv') (kk : Vw K nL ws k n lv' pc st) : Vw K nL ws k n lv pc st := e ▸ kk
end YR2
