/-! the component's pure functions, over XS (the numbers as in 05; 17: the stage's cell, 0 none; arrays 12 and 13, code and sizes, stand for its program) -/
def g_m1 (S : XS) (a : Int32) : Int32 := if f_place S a = -1 then 1 else 0
def g_m2 (S : XS) (a b : Int32) : Int32 := if b = a then 0 else if f_place S b = -1 then 1 else 0
def g_takes (S : XS) (a b : Int32) : Int32 := if 38 < S.1 12 + g_m1 S a + g_m2 S a b then 0 else 1
def g_far (S : XS) (n x : Int32) : XS := if S.1 16 ≤ n then xs (xa S 10 (ix (jrem n 64)) x) 16 (n + 1) else S
def g_out (S : XS) (n x : Int32) : XS := g_far (xs (xa (xa S 8 (ix (jrem (S.1 13) 64)) n) 9 (ix (jrem (S.1 13) 64)) x) 13 (S.1 13 + 1)) n x
def g_keeps (S : XS) (n : Int32) : Int32 := if n < 0 then 0 else if S.1 16 ≤ n then 0 else if n < S.1 16 - 64 then 0 else 1
def g_rep (S : XS) : XS := if S.2 0 2 ≤ S.1 8 then xs (f_write S 2 0) 17 7 else xs (f_write S (S.2 0 (ix (84 + 2 * S.1 8))) (S.2 0 (ix (84 + 2 * S.1 8 + 1)))) 8 ((f_write S (S.2 0 (ix (84 + 2 * S.1 8))) (S.2 0 (ix (84 + 2 * S.1 8 + 1)))).1 8 + 1)
def g_idle (S : XS) : Int32 := if S.2 0 4 = S.2 0 3 then 1 else 0
def g_tog (S : XS) : XS := xs S 7 (if S.1 7 = 0 then 1 else 0)
def g_air0 (S : XS) : XS := if S.1 7 = 0 then g_out S (S.2 0 4) (S.2 0 (ix (68 + jrem (S.2 0 4) 16))) else f_write S 4 (S.2 0 4 + 1)
def g_air (S : XS) : XS := g_tog (g_air0 S)
def g_store (S : XS) (a v : Int32) : XS := if g_takes S a a = 0 then S else f_put S a v
def g_push2 (S : XS) (at_ many slot v : Int32) : XS := if 4 ≤ many then xa S 4 7 0 else if g_takes S slot (at_ + 1) = 0 then xa S 4 7 0 else xa (f_put (f_put S slot v) (at_ + 1) (many + 1)) 4 7 1
def g_push (S : XS) (at_ v : Int32) : XS := g_push2 S at_ (f_see S (at_ + 1)) (at_ + 2 + jrem (f_see S at_ + f_see S (at_ + 1)) 4) v
def g_pop0 (S : XS) (many r : Int32) : XS := if many = 0 then xa (xa S 4 (ix r) 0) 4 7 0 else xa S 4 7 0
def g_pop1 (S : XS) (at_ first many r : Int32) : XS := if many ≤ 0 then g_pop0 S many r else if g_takes S at_ (at_ + 1) = 0 then g_pop0 S many r else f_pop2 S at_ first many r
def g_pop (S : XS) (at_ r : Int32) : XS := g_pop1 S at_ (f_see S at_) (f_see S (at_ + 1)) r
def g_send2 (S : XS) (n v : Int32) : XS := if 16 ≤ n - S.2 0 4 then xa S 4 7 0 else if g_takes S (68 + jrem n 16) 3 = 0 then xa S 4 7 0 else xa (f_put (f_put S (68 + jrem n 16) v) 3 (n + 1)) 4 7 1
def g_send (S : XS) (v : Int32) : XS := g_send2 S (f_see S 3) v
def g_clear (S : XS) : XS := f_clr (xs (xs S 2 0) 12 0) 8 0
def g_leave (S : XS) : XS := g_clear (xs (xs S 17 7) 7 0)
def g_aband (S : XS) : XS := g_leave (xs S 6 (S.1 6 + 1))
def g_cb2 (S : XS) : XS := xs (xs (f_put S 1 (S.2 0 1 + 1)) 11 0) 17 9
def g_cbegin (S : XS) (t : Int32) : XS := g_cb2 (f_put S 0 t)
def g_bound (S : XS) (x : Int32) : XS := if S.1 10 = -1 then S else if S.1 1 - S.1 10 ≤ x then S else g_aband S
/-- an instruction acts -/
def g_act (S : XS) (o a b c : Int32) : XS :=
  if o = 0 then g_cbegin S a
  else if o = 1 then xa S 4 (ix a) (b <<< ((8 : Int32) &&& 31) ||| c).toInt16.toInt32
  else if o = 2 then xa S 4 (ix a) (S.2 4 (ix b) + S.2 4 (ix c))
  else if o = 3 then xa S 4 (ix a) (S.2 4 (ix b) - S.2 4 (ix c))
  else if o = 4 then xa S 4 (ix a) (S.2 4 (ix b) * S.2 4 (ix c))
  else if o = 5 then xa S 4 (ix a) (S.2 4 (ix b) ^^^ S.2 4 (ix c))
  else if o = 6 then (if S.2 4 (ix a) = 0 then xs S 9 b else xs S 9 (S.1 9))
  else if o = 7 then xs S 9 b
  else if o = 8 then xa S 4 (ix a) (f_see S (8 + b))
  else if o = 9 then g_store S (8 + b) (S.2 4 (ix a))
  else if o = 10 then xa S 4 (ix a) (f_see S (f_rw b c S))
  else if o = 11 then g_store S (f_rw b c S) (S.2 4 (ix a))
  else if o = 12 then g_push S (56 + 6 * b) (S.2 4 (ix a))
  else if o = 13 then g_pop S (56 + 6 * b) a
  else if o = 14 then xa S 4 (ix a) (S.2 5 (ix b))
  else if o = 15 then g_send S (S.2 4 (ix a))
  else if o = 16 then xs S 10 (S.1 1)
  else g_bound S a
def g_run (S : XS) : XS := g_act (xs S 9 (S.1 9 + 1)) (f_op (f_word S)) (f_a (f_word S)) (f_b (f_word S)) (f_c (f_word S))
def g_max (x y : Int32) : Int32 := if x < y then y else x
def g_min (x y : Int32) : Int32 := if y < x then y else x
def g_succ1 (S : XS) : XS := xa S 6 (ix (S.1 15)) (g_max (S.2 6 (ix (S.1 15))) (S.1 2))
def g_succ (S : XS) : XS := xa (g_succ1 S) 7 (ix (S.1 15)) 0
def g_done (S : XS) : XS := g_leave (g_succ (f_write S 2 0))
def g_com2 (S : XS) (n k : Int32) : XS :=
  if 2 * n ≤ k then (if k = 2 * n then f_write S 2 n else if 3 * n < k then g_done S else f_write S (S.2 2 (ix (k - 2 * n - 1))) (S.2 3 (ix (k - 2 * n - 1))))
  else f_write S (84 + k) (if jrem k 2 = 0 then S.2 2 (ix (k / 2)) else S.2 3 (ix (k / 2)))
def g_inc (S : XS) : XS := xs S 11 (S.1 11 + 1)
def g_com (S : XS) : XS := g_inc (g_com2 S (S.1 12) (S.1 11))
/-- the node -/
def g_nb2 (S : XS) : XS := xs (xs (xs (xs S 15 (S.2 0 0)) 9 0) 10 (-1)) 17 8
def g_nbegin (S : XS) : XS := g_nb2 (g_clear S)
def g_counts (S : XS) : Int32 := if S.1 17 = 8 then 1 else if S.1 17 = 9 then (if S.2 0 2 = 0 then 1 else 0) else 0
def g_count1 (S : XS) : XS := xa S 7 (ix (S.1 15)) (S.2 7 (ix (S.1 15)) + 1)
def g_count2 (S : XS) : XS := xa S 6 (ix (S.1 15)) (g_min (2 * g_max (S.2 6 (ix (S.1 15))) (S.1 2)) 1940)
def g_count3 (S : XS) : XS := if S.2 7 (ix (S.1 15)) = 12 then xs S 4 (S.1 15) else S
def g_count (S : XS) : XS := g_count3 (g_count2 (g_count1 S))
def g_fail1 (S : XS) : XS := if g_counts S = 0 then S else g_count S
def g_fail (S : XS) : XS := g_clear (xs (g_fail1 (xs S 5 (S.1 5 + 1))) 17 0)
def g_wants (S : XS) : Int32 := g_min (60 + S.2 6 (ix (S.2 0 0))) 2000
def g_bootsR (S : XS) : Int32 := if S.1 4 = -1 then (if S.1 0 < 60 then 0 else if g_wants S ≤ S.1 0 then 1 else 0) else 0
def g_boot1 (S : XS) : XS := xs (xs (xs S 0 (S.1 0 - 60)) 8 0) 7 0
def g_boots (S : XS) : XS := if S.1 4 = -1 then (if S.1 0 < 60 then S else if g_wants S ≤ S.1 0 then xs (g_boot1 S) 17 (if S.2 0 2 = 0 then 7 else 6) else S) else S
def g_pre (S : XS) : XS := if S.1 17 = 7 then (if g_idle S = 0 then S else g_nbegin S) else S
def g_cost (S : XS) : Int32 := if S.1 17 = 8 then y_cost (ix (f_op (f_word S))) else if S.1 17 = 7 then f_airC S else 4
def g_try (S : XS) : Int32 := if S.1 17 = 8 then 1 else if S.1 17 = 9 then 1 else 0
def g_pay2 (S : XS) (c : Int32) : XS := xs S 2 (S.1 2 + (if g_try S = 0 then 0 else c))
def g_pay (S : XS) (c : Int32) : XS := g_pay2 (xs S 0 (S.1 0 - c)) c
def g_actS (S : XS) : XS := if S.1 17 = 6 then g_rep S else if S.1 17 = 7 then g_air S else if S.1 17 = 8 then g_run S else g_com S
def g_cut (S : XS) : XS := if S.1 3 ≤ 0 then S else if (xs S 3 (S.1 3 - 1)).1 3 = 0 then g_fail (xs S 3 (S.1 3 - 1)) else xs S 3 (S.1 3 - 1)
def g_step1R (S : XS) : Int32 := if g_cost S ≤ S.1 0 then 1 else 0
def g_step1 (S : XS) : XS := if g_cost S ≤ S.1 0 then g_cut (g_actS (g_pay S (g_cost S))) else g_fail S
def g_stepR (S : XS) : Int32 := g_step1R (g_pre S)
def g_step (S : XS) : XS := g_step1 (g_pre S)
def g_loop (S : XS) : Nat → XS
  | 0 => S
  | n + 1 => if S.1 17 = 0 then S else if g_stepR S = 0 then g_step S else g_loop (g_step S) n
def g_loopR (S : XS) (c : Int32) : Nat → Int32
  | 0 => c
  | n + 1 => if S.1 17 = 0 then c else if g_stepR S = 0 then c else g_loopR (g_step S) (c + 1) n
def g_harv (S : XS) (x : Int32) : XS := xs (xs S 0 (g_min (S.1 0 + x) 2000)) 1 (S.1 1 + 1)
def g_slot1 (S : XS) : XS := if S.1 17 = 0 then (if g_bootsR S = 0 then g_boots S else g_loop (g_boots S) 16) else g_loop S 16
def g_slot1R (S : XS) : Int32 := if S.1 17 = 0 then (if g_bootsR S = 0 then -1 else g_loopR (g_boots S) 0 16) else g_loopR S 0 16
def g_slot (S : XS) (x : Int32) : XS := g_slot1 (g_harv S x)
def g_slotR (S : XS) (x : Int32) : Int32 := g_slot1R (g_harv S x)
def g_phase (S : XS) : Int32 := if S.1 17 = 0 then 0 else if S.1 17 = 6 then 1 else if S.1 17 = 7 then 2 else if S.1 17 = 8 then 3 else 4
/-- the face -/
def g_cutC (S : XS) (x : Int32) : XS := if x < 0 then S else if x ≤ 10000 then xs S 3 x else S
def g_sense (S : XS) (k v : Int32) : XS := if k < 0 then S else if k ≤ 3 then xa S 5 (ix k) v else S
def g_stateR (S : XS) (k : Int32) : Int32 :=
  if k = 0 then g_phase S else if k = 1 then S.1 0 else if k = 2 then S.1 1 else if k = 3 then S.1 2 else if k = 4 then (if S.1 17 = 8 then S.1 12 else if S.1 17 = 9 then S.1 12 - 2 else 0)
  else if k = 5 then (if S.1 17 = 8 then S.1 9 else 0) else if k = 6 then S.1 4 else if k = 7 then S.1 5 else if k = 8 then S.1 6 else if k = 9 then S.1 13 else -1
def g_taskR (S : XS) (t w : Int32) : Int32 := if f_isTask t = 0 then -1 else if w = 0 then S.2 6 (ix t) else if w = 1 then S.2 7 (ix t) else if w = 2 then S.2 13 (ix t) else -1
def g_registerR (S : XS) (k : Int32) : Int32 := if k < 0 then 0 else if k < 8 then S.2 4 (ix k) else 0
/-- the seal -/
def g_goodW (sz : Nat → Int32) (n w : Int32) (last : Int32) : Int32 :=
  if f_op w = 0 then (if 16 ≤ f_a w then 0 else if sz (ix (f_a w)) ≤ 0 then 0 else 1)
  else if f_op w = 7 then (if n ≤ f_b w then 0 else 1)
  else if last = 1 then 0
  else if f_op w = 1 ∨ f_op w = 15 then (if 8 ≤ f_a w then 0 else 1)
  else if f_op w = 2 ∨ f_op w = 3 ∨ f_op w = 4 ∨ f_op w = 5 then (if 8 ≤ f_a w then 0 else if 8 ≤ f_b w then 0 else if 8 ≤ f_c w then 0 else 1)
  else if f_op w = 6 then (if 8 ≤ f_a w then 0 else if n ≤ f_b w then 0 else 1)
  else if f_op w = 8 ∨ f_op w = 9 then (if 8 ≤ f_a w then 0 else if 16 ≤ f_b w then 0 else 1)
  else if f_op w = 10 ∨ f_op w = 11 then (if 8 ≤ f_a w then 0 else if 8 ≤ f_c w then 0 else if 4 ≤ f_b w then 0 else 1)
  else if f_op w = 12 ∨ f_op w = 13 then (if 8 ≤ f_a w then 0 else if 2 ≤ f_b w then 0 else 1)
  else if f_op w = 14 then (if 8 ≤ f_a w then 0 else if 4 ≤ f_b w then 0 else 1)
  else if f_op w = 16 ∨ f_op w = 17 then 1 else 0
def g_good (S : XS) (t i : Int32) : Int32 := g_goodW (S.2 13) (S.2 13 (ix t)) (S.2 12 (ix (32 * t + i))) (if i = S.2 13 (ix t) - 1 then 1 else 0)
def g_sealI (S : XS) (t : Nat) : Nat → Nat → Int32
  | 0, _ => 0
  | n + 1, i => if g_good S (nI t) (nI i) = 0 then 1 + 32 * nI t + nI i else g_sealI S t n (i + 1)
def g_sealT (S : XS) : Nat → Nat → Int32
  | 0, _ => 0
  | n + 1, t => if t = 0 ∧ S.2 13 t = 0 then 1 else if g_sealI S t (ix (S.2 13 t)) 0 = 0 then g_sealT S n (t + 1) else g_sealI S t (ix (S.2 13 t)) 0
def g_sealR (S : XS) : Int32 := if S.1 14 = 0 then g_sealT S 16 0 else 0
def g_seal (S : XS) : XS := if S.1 14 = 0 then (if g_sealT S 16 0 = 0 then xs S 14 1 else S) else S
