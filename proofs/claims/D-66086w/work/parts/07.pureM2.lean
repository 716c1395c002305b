/-! the model's larger functions -/
def f_program1 (S : XS) (t i w : Int32) : XS := if i = (xa S 12 (ix (32 * t + i)) w).2 13 (ix t) then xa (xa S 12 (ix (32 * t + i)) w) 13 (ix t) ((xa S 12 (ix (32 * t + i)) w).2 13 (ix t) + 1) else xa S 12 (ix (32 * t + i)) w
def f_program0 (S : XS) (t i w : Int32) : XS := if S.1 14 = 0 then (if f_isTask t = 0 then S else if i < 0 then S else if S.2 13 (ix t) < i then S else if i < 32 then f_program1 S t i w else S) else S
def f_programR0 (S : XS) (t i : Int32) : Int32 := if S.1 14 = 0 then (if f_isTask t = 0 then 0 else if i < 0 then 0 else if S.2 13 (ix t) < i then 0 else if i < 32 then 1 else 0) else 0
def f_program (S : XS) (t i w : Int32) : XS := f_program0 (xs S 19 0) t i w
def f_programR (S : XS) (t i : Int32) : Int32 := f_programR0 (xs S 19 0) t i
/-- is an instruction right, by its word w; n: its task's size -/
def f_rightW (sz : Nat → Int32) (n w : Int32) : Int32 :=
  if f_op w = 0 then (if f_isTask (f_a w) = 0 then 0 else if sz (ix (f_a w)) ≤ 0 then 0 else 1)
  else if f_op w = 1 ∨ f_op w = 15 then (if 8 ≤ f_a w then 0 else 1)
  else if f_op w = 2 ∨ f_op w = 3 ∨ f_op w = 4 ∨ f_op w = 5 then (if 8 ≤ f_a w then 0 else if 8 ≤ f_b w then 0 else if 8 ≤ f_c w then 0 else 1)
  else if f_op w = 6 then (if 8 ≤ f_a w then 0 else if n ≤ f_b w then 0 else 1)
  else if f_op w = 7 then (if n ≤ f_b w then 0 else 1)
  else if f_op w = 8 ∨ f_op w = 9 then (if 8 ≤ f_a w then 0 else if 16 ≤ f_b w then 0 else 1)
  else if f_op w = 10 ∨ f_op w = 11 then (if 8 ≤ f_a w then 0 else if 4 ≤ f_b w then 0 else if 8 ≤ f_c w then 0 else 1)
  else if f_op w = 12 ∨ f_op w = 13 then (if 8 ≤ f_a w then 0 else if 2 ≤ f_b w then 0 else 1)
  else if f_op w = 14 then (if 8 ≤ f_a w then 0 else if 4 ≤ f_b w then 0 else 1)
  else if f_op w = 16 ∨ f_op w = 17 then 1 else 0
def f_right0 (S : XS) (t i w : Int32) : Int32 := if i + 1 = S.2 13 (ix t) then (if f_op w = 0 then f_rightW (S.2 13) (S.2 13 (ix t)) w else if f_op w = 7 then f_rightW (S.2 13) (S.2 13 (ix t)) w else 0) else f_rightW (S.2 13) (S.2 13 (ix t)) w
def f_right (S : XS) (t i : Int32) : Int32 := f_right0 S t i (S.2 12 (ix (32 * t + i)))
/-- the seal's search: the first wrong instruction, by its number (0: none) -/
def f_sealI (S : XS) (t : Nat) : Nat → Nat → Int32
  | 0, _ => 0
  | n + 1, i => if f_right S (nI t) (nI i) = 0 then 1 + 32 * nI t + nI i else f_sealI S t n (i + 1)
def f_sealT (S : XS) : Nat → Nat → Int32
  | 0, _ => 0
  | n + 1, t => if f_sealI S t (ix (S.2 13 t)) 0 = 0 then f_sealT S n (t + 1) else f_sealI S t (ix (S.2 13 t)) 0
def f_sealR0 (S : XS) : Int32 := if S.1 14 = 0 then (if S.2 13 0 = 0 then 1 else f_sealT S 16 0) else 0
def f_seal0 (S : XS) : XS := if S.1 14 = 0 then (if S.2 13 0 = 0 then S else if f_sealT S 16 0 = 0 then xs S 14 1 else S) else S
def f_sealR (S : XS) : Int32 := f_sealR0 (xs S 19 0)
def f_seal (S : XS) : XS := f_seal0 (xs S 19 0)
/-- a replay's step, paid -/
def f_rep (S : XS) : XS := if S.2 0 2 ≤ S.1 8 then xs (xs (f_write S 2 0) 18 2) 7 0 else xs (f_write S (S.2 0 (ix (84 + 2 * S.1 8))) (S.2 0 (ix (84 + 2 * S.1 8 + 1)))) 8 ((f_write S (S.2 0 (ix (84 + 2 * S.1 8))) (S.2 0 (ix (84 + 2 * S.1 8 + 1)))).1 8 + 1)
def f_replay (S : XS) : XS := if f_paysR S 4 = 0 then f_pays S 4 else f_rep (f_pays S 4)
/-- the air's step, paid -/
def f_far (S : XS) (n x : Int32) : XS := if S.2 11 (ix (jrem n 64)) = n then S else xa (xa S 11 (ix (jrem n 64)) n) 10 (ix (jrem n 64)) x
def f_out (S : XS) (n x : Int32) : XS := f_far (xs (xa (xa S 8 (ix (jrem (S.1 13) 64)) n) 9 (ix (jrem (S.1 13) 64)) x) 13 (S.1 13 + 1)) n x
def f_air1 (S : XS) : XS := if S.1 7 = 0 then f_out (xs S 7 1) (S.2 0 4) (S.2 0 (ix (68 + jrem (S.2 0 4) 16))) else f_write (xs S 7 0) 4 (S.2 0 4 + 1)
def f_airC (S : XS) : Int32 := if S.1 7 = 0 then 20 else 4
def f_air (S : XS) : XS := if f_paysR S (f_airC S) = 0 then f_pays S (f_airC S) else f_air1 (f_pays S (f_airC S))
/-- queues and frames -/
def f_push2 (S : XS) (at_ many slot v : Int32) : XS := if many = 4 then S else if f_room S slot (at_ + 1) = 0 then S else xa (f_put (f_put S slot v) (at_ + 1) (many + 1)) 4 7 1
def f_push1 (S : XS) (at_ v : Int32) : XS := f_push2 (xa S 4 7 0) at_ (f_see S (at_ + 1)) (at_ + 2 + jrem (f_see S at_ + f_see S (at_ + 1)) 4) v
def f_push (S : XS) (q v : Int32) : XS := f_push1 S (56 + 6 * q) v
def f_pop2 (S : XS) (at_ first many r : Int32) : XS := xa (f_put (f_put (xa S 4 (ix r) (f_see S (at_ + 2 + first))) at_ (jrem (first + 1) 4)) (at_ + 1) (many - 1)) 4 7 1
def f_pop1 (S : XS) (at_ first many r : Int32) : XS := if many = 0 then xa (xa S 4 (ix r) 0) 4 7 0 else if f_room S at_ (at_ + 1) = 0 then xa S 4 7 0 else f_pop2 S at_ first many r
def f_pop (S : XS) (q r : Int32) : XS := f_pop1 S (56 + 6 * q) (f_see S (56 + 6 * q)) (f_see S (56 + 6 * q + 1)) r
def f_send2 (S : XS) (n v : Int32) : XS := if n - S.2 0 4 = 16 then S else if f_room S (68 + jrem n 16) 3 = 0 then S else xa (f_put (f_put S (68 + jrem n 16) v) 3 (n + 1)) 4 7 1
def f_send (S : XS) (v : Int32) : XS := f_send2 (xa S 4 7 0) (f_see S 3) v
/-- an attempt's end: a commit begins -/
def f_com (S : XS) (x : Int32) : XS := xs (xa (xa (xa (xa (xs S 18 4) 2 (ix (S.1 12)) 0) 3 (ix (S.1 12)) x) 2 (ix (S.1 12 + 1)) 1) 3 (ix (S.1 12 + 1)) (S.2 0 1 + 1)) 11 0
def f_leave (S : XS) : XS := f_end (xs (xs S 18 2) 7 0)
def f_bound (S : XS) (x : Int32) : XS := if S.1 10 = -1 then S else if S.1 1 - S.1 10 ≤ x then S else f_leave (xs S 6 (S.1 6 + 1))
def f_rw (b c : Int32) (S : XS) : Int32 := 24 + 8 * b + (S.2 4 (ix c) &&& 7)
def f_store (S : XS) (a x : Int32) : XS := if f_room S a a = 0 then S else f_put S a x
/-- an instruction acts -/
def f_act (S : XS) (o a b c : Int32) : XS :=
  if o = 0 then f_com S a
  else if o = 1 then xa S 4 (ix a) (256 * b + c).toInt16.toInt32
  else if o = 2 then xa S 4 (ix a) (S.2 4 (ix b) + S.2 4 (ix c))
  else if o = 3 then xa S 4 (ix a) (S.2 4 (ix b) - S.2 4 (ix c))
  else if o = 4 then xa S 4 (ix a) (S.2 4 (ix b) * S.2 4 (ix c))
  else if o = 5 then xa S 4 (ix a) (S.2 4 (ix b) ^^^ S.2 4 (ix c))
  else if o = 6 then (if S.2 4 (ix a) = 0 then xs S 9 b else S)
  else if o = 7 then xs S 9 b
  else if o = 8 then xa S 4 (ix a) (f_see S (8 + b))
  else if o = 9 then f_store S (8 + b) (S.2 4 (ix a))
  else if o = 10 then xa S 4 (ix a) (f_see S (f_rw b c S))
  else if o = 11 then f_store S (f_rw b c S) (S.2 4 (ix a))
  else if o = 12 then f_push S b (S.2 4 (ix a))
  else if o = 13 then f_pop S b a
  else if o = 14 then xa S 4 (ix a) (S.2 5 (ix b))
  else if o = 15 then f_send S (S.2 4 (ix a))
  else if o = 16 then xs S 10 (S.1 1)
  else f_bound S a
def f_word (S : XS) : Int32 := S.2 12 (ix (32 * S.2 0 0 + S.1 9))
def f_runP (S : XS) (w : Int32) : XS := f_act (xs S 9 (S.1 9 + 1)) (f_op w) (f_a w) (f_b w) (f_c w)
def f_run (S : XS) : XS := if f_paysR S (f_cost (f_op (f_word S))) = 0 then f_pays S (f_cost (f_op (f_word S))) else f_runP (f_pays S (f_cost (f_op (f_word S)))) (f_word S)
/-- a commit's step -/
def f_apply (S : XS) (e : Int32) : XS := f_write S (S.2 2 (ix e)) (S.2 3 (ix e))
def f_est (S : XS) : XS := if S.1 2 ≤ S.2 6 (ix (S.1 15)) then S else xa S 6 (ix (S.1 15)) (S.1 2)
def f_done1 (S : XS) : XS := f_leave (xa S 7 (ix (S.1 15)) 0)
def f_done (S : XS) : XS := f_done1 (f_est (f_write S 2 0))
def f_com2 (S : XS) (n k : Int32) : XS :=
  if 2 * n ≤ k then (if k = 2 * n then f_write S 2 n else if 3 * n < k then f_done S else f_apply (xs S 15 (if k - 2 * n - 1 = 0 then S.2 0 0 else S.1 15)) (k - 2 * n - 1))
  else f_write S (84 + k) (if jrem k 2 = 0 then S.2 2 (ix (k / 2)) else S.2 3 (ix (k / 2)))
def f_com1 (S : XS) : XS := f_com2 (xs S 11 (S.1 11 + 1)) (S.1 12 + 2) (S.1 11)
def f_commit (S : XS) : XS := if f_paysR S 4 = 0 then f_pays S 4 else f_com1 (f_pays S 4)
/-- one step -/
def f_begin (S : XS) : XS := if S.1 18 = 2 then (if S.1 7 = 0 then (if S.2 0 4 = S.2 0 3 then xs (f_end S) 18 3 else S) else S) else S
def f_phase (S : XS) : XS := if S.1 18 = 1 then f_replay S else if S.1 18 = 2 then f_air S else if S.1 18 = 3 then f_run S else f_commit S
def f_cut (S : XS) : XS := if S.1 3 ≤ 0 then S else if (xs S 3 (S.1 3 - 1)).1 3 = 0 then f_fail (xs S 3 (S.1 3 - 1)) else xs S 3 (S.1 3 - 1)
def f_stepR (S : XS) : Int32 := if (f_phase (f_begin S)).1 5 = (f_begin S).1 5 then 1 else 0
def f_step (S : XS) : XS := if (f_phase (f_begin S)).1 5 = (f_begin S).1 5 then f_cut (f_phase (f_begin S)) else f_phase (f_begin S)
/-- a slot -/
def f_loop (S : XS) : Nat → XS
  | 0 => S
  | n + 1 => if S.1 18 = 0 then S else f_loop (f_step S) n
def f_loopR (S : XS) (c : Int32) : Nat → Int32
  | 0 => c
  | n + 1 => if S.1 18 = 0 then c else f_loopR (f_step S) (if f_stepR S = 0 then c else c + 1) n
def f_thr (S : XS) (x : Int32) : Int32 := if S.1 14 = 0 then 1 else if x < 0 then 2 else if x ≤ 500 then 0 else 2
def f_wants (S : XS) : Int32 := if 60 + S.2 6 (ix (S.2 0 0)) ≤ 2000 then 60 + S.2 6 (ix (S.2 0 0)) else 2000
def f_booted (S : XS) : XS := xs (xs (xs (xs S 0 (S.1 0 - 60)) 8 0) 7 0) 18 (if S.2 0 2 = 0 then 2 else 1)
def f_harv (S : XS) (x : Int32) : XS := xs (xs S 0 (if S.1 0 + x ≤ 2000 then S.1 0 + x else 2000)) 1 (S.1 1 + 1)
/-- whether the node stays off -/
def f_off (S : XS) : Bool := decide (S.1 18 = 0) && (!decide (S.1 4 = -1) || !decide (f_wants S ≤ S.1 0))
def f_slot1 (S : XS) : XS := if S.1 18 = 0 then (if S.1 4 = -1 then (if f_wants S ≤ S.1 0 then f_loop (f_booted S) 16 else S) else S) else f_loop S 16
def f_slot1R (S : XS) : Int32 := if S.1 18 = 0 then (if S.1 4 = -1 then (if f_wants S ≤ S.1 0 then f_loopR (f_booted S) 0 16 else -1) else -1) else f_loopR S 0 16
def f_slot0 (S : XS) (x : Int32) : XS := if S.1 19 = 0 then f_slot1 (f_harv S x) else S
def f_slotR0 (S : XS) (x : Int32) : Int32 := if S.1 19 = 0 then f_slot1R (f_harv S x) else 0
def f_slot (S : XS) (x : Int32) : XS := f_slot0 (xs S 19 (f_thr S x)) x
def f_slotR (S : XS) (x : Int32) : Int32 := f_slotR0 (xs S 19 (f_thr S x)) x
/-- the face -/
def f_cutC (S : XS) (x : Int32) : XS := if x < 0 then xs S 19 0 else if x ≤ 10000 then xs (xs S 19 0) 3 x else xs S 19 0
def f_cutR (x : Int32) : Int32 := if x < 0 then 0 else if x ≤ 10000 then 1 else 0
def f_sense (S : XS) (k v : Int32) : XS := if k < 0 then xs S 19 0 else if k ≤ 3 then xa (xs S 19 0) 5 (ix k) v else xs S 19 0
def f_senseR (k : Int32) : Int32 := if k < 0 then 0 else if k ≤ 3 then 1 else 0
def f_kept (S : XS) (k : Int32) : XS := if k < 0 then xs S 19 1 else if k < 164 then xs S 19 0 else xs S 19 1
def f_keptR (S : XS) (k w : Int32) : Int32 := if k < 0 then 0 else if k < 164 then (if w = 0 then S.2 0 (ix k) else S.2 1 (ix k)) else 0
def f_airedR0 (S : XS) (k w : Int32) : Int32 := if k < 0 then -1 else if 64 ≤ k then -1 else if S.1 13 ≤ k then -1 else if w < 0 then -1 else if w ≤ 1 then (if w = 0 then S.2 8 (ix (jrem (S.1 13 - 1 - k) 64)) else S.2 9 (ix (jrem (S.1 13 - 1 - k) 64))) else -1
def f_airedR (S : XS) (k w : Int32) : Int32 := f_airedR0 (xs S 19 0) k w
def f_heard (S : XS) (k : Int32) : XS := if k < 0 then xs S 19 1 else if S.2 11 (ix (jrem k 64)) = k then xs S 19 0 else xs S 19 1
def f_heardR (S : XS) (k : Int32) : Int32 := if k < 0 then 0 else if S.2 11 (ix (jrem k 64)) = k then S.2 10 (ix (jrem k 64)) else 0
def f_att (S : XS) : Int32 := if S.1 18 = 3 then 1 else if S.1 18 = 4 then 1 else 0
def f_stateR0 (S : XS) (k : Int32) : Int32 :=
  if k = 0 then S.1 18 else if k = 1 then S.1 0 else if k = 2 then S.1 1 else if k = 3 then (if f_att S = 0 then 0 else S.1 2) else if k = 4 then (if f_att S = 0 then 0 else S.1 12)
  else if k = 5 then (if S.1 18 = 3 then S.1 9 else 0) else if k = 6 then S.1 4 else if k = 7 then S.1 5 else if k = 8 then S.1 6 else if k = 9 then S.1 13 else -1
def f_stateR (S : XS) (k : Int32) : Int32 := f_stateR0 (xs S 19 0) k
def f_taskR (S : XS) (t w : Int32) : Int32 := if f_isTask t = 0 then -1 else if w < 0 then -1 else if w ≤ 2 then (if w = 0 then S.2 6 (ix t) else if w = 1 then S.2 7 (ix t) else S.2 13 (ix t)) else -1
def f_registerR0 (S : XS) (k : Int32) : Int32 := if S.1 18 = 3 then (if k < 0 then 0 else if 8 ≤ k then 0 else S.2 4 (ix k)) else if S.1 18 = 4 then (if k < 0 then 0 else if 8 ≤ k then 0 else S.2 4 (ix k)) else 0
def f_registerR (S : XS) (k : Int32) : Int32 := f_registerR0 (xs S 19 0) k
/-! ranges -/
theorem jushr_nn {w s : Int32} {k : Nat} (hs : ((s.toUInt32 &&& Int32.toUInt32 31).toBitVec % 32).toNat = k) (hk : 0 < k) : ∃ j : Nat, j < 2 ^ (32 - k) ∧ jushr w s = nI j := by
  have h := pk_ushr w s k hs
  refine ⟨w.toBitVec.toNat / 2 ^ k, ?_, ?_⟩
  · have hw := w.toBitVec.isLt
    by_cases hk2 : k ≤ 32
    · have e : 2 ^ 32 = 2 ^ k * 2 ^ (32 - k) := by rw [← Nat.pow_add]; congr 1; omega
      exact Nat.div_lt_of_lt_mul (by omega)
    · have : w.toBitVec.toNat / 2 ^ k = 0 := by
        refine Nat.div_eq_of_lt (Nat.lt_of_lt_of_le hw ?_)
        exact Nat.pow_le_pow_right (by decide) (by omega)
      rw [this]; exact Nat.two_pow_pos _
  · apply Int32.toBitVec_inj.mp
    apply BitVec.eq_of_toNat_eq
    unfold jushr
    rw [h, pk_tn]
    exact Nat.lt_of_le_of_lt (Nat.div_le_self _ _) w.toBitVec.isLt
theorem f_op_nn (w : Int32) : ∃ j : Nat, j < 256 ∧ f_op w = nI j := jushr_nn (k := 24) (by decide) (by decide)
theorem f_a_nn (w : Int32) : ∃ j : Nat, j < 256 ∧ f_a w = nI j := pk_andE _ 8 (by decide)
theorem f_b_nn (w : Int32) : ∃ j : Nat, j < 256 ∧ f_b w = nI j := pk_andE _ 8 (by decide)
theorem f_c_nn (w : Int32) : ∃ j : Nat, j < 256 ∧ f_c w = nI j := pk_andE _ 8 (by decide)
theorem vi_lt {x : Int32} {n : Nat} {N : Int32} (hx : ∃ j : Nat, j < 256 ∧ x = nI j) (h : ¬ N ≤ x) (hN : N = nI n) (hn : n < 2 ^ 31) : vp_in x n := by
  obtain ⟨j, h1, h2⟩ := hx
  rw [hN, h2, nI_leI hn (by omega)] at h
  rw [h2]
  exact vp_in_nI (by omega) hn
theorem vi_of {x : Int32} {n : Nat} {N : Int32} (h0 : ¬ x < 0) (h : x < N) (hN : N = nI n) (hn : n < 2 ^ 31) : vp_in x n := by
  obtain ⟨j, h1, h2⟩ := nI_of h0
  rw [h2, hN, nI_ltI h1 hn] at h
  rw [h2]
  exact vp_in_nI h hn
theorem f_isTask_in {t : Int32} (h : ¬ f_isTask t = 0) : vp_in t 16 := by
  unfold f_isTask at h
  split at h
  · exact absurd rfl h
  · rename_i h0
    split at h
    · exact absurd rfl h
    · rename_i h1
      obtain ⟨j, g1, g2⟩ := nI_of h0
      rw [g2, show (16 : Int32) = nI 16 from rfl, nI_leI (by decide) g1] at h1
      rw [g2]
      exact vp_in_nI (by omega) (by decide)
theorem code_in {t i : Int32} (ht : vp_in t 16) (hi : vp_in i 32) : vp_in (32 * t + i) 512 := by
  obtain ⟨a, a1, rfl⟩ := vp_in_of ht (by decide)
  obtain ⟨b, b1, rfl⟩ := vp_in_of hi (by decide)
  rw [show (32 : Int32) = nI 32 from rfl, pk_mul, nI_add]
  exact vp_in_nI (by omega) (by decide)
theorem jrem_in {x : Int32} {n d : Nat} (hx : vp_in x n) (hn : n < 2 ^ 31) {D : Int32} (hD : D = nI d) (h0 : 0 < d) (hd : d < 2 ^ 31) : vp_in (jrem x D) d := by
  obtain ⟨a, a1, rfl⟩ := vp_in_of hx hn
  rw [hD]
  unfold jrem
  rw [pk_rem (by omega) h0 hd]
  exact vp_in_nI (Nat.mod_lt _ h0) hd
theorem jrem_nI {a d : Nat} (ha : a < 2 ^ 31) (h0 : 0 < d) (hd : d < 2 ^ 31) : jrem (nI a) (nI d) = nI (a % d) := pk_rem ha h0 hd
