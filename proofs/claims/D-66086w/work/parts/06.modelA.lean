/-! the model: graph, facts, contracts of its small methods -/
set_option maxRecDepth 100000
def mG : List GC := [.inl (0, [.inl 19, .inr (.inl 1), .inr (.inl 2), .inl 14, .inr (.inl 3), .inr (.inl 4), .inr (.inl 5), .inr (.inl 6), .inr (.inl 7), .inl 0, .inl 1, .inl 18, .inl 4, .inl 5, .inl 6, .inl 3, .inl 8, .inl 7, .inr (.inl 8), .inl 9, .inl 2, .inl 10, .inl 12, .inr (.inl 9), .inr (.inl 10), .inl 11, .inl 13, .inr (.inl 11), .inr (.inl 12), .inr (.inl 13), .inr (.inl 14), .inl 15]), .inr (12, 512), .inr (13, 16), .inr (0, 164), .inr (1, 164), .inr (5, 4), .inr (6, 16), .inr (7, 16), .inr (4, 8), .inr (2, 40), .inr (3, 40), .inr (8, 64), .inr (9, 64), .inr (11, 64), .inr (10, 64)]
theorem pOk.mono {n m : Nat} {S : XS} (h : pOk n S) (hn : n ≤ m) : pOk m S := by
  obtain ⟨p, h1, h2⟩ := h
  exact ⟨p, by omega, h2⟩
theorem nI_nle_lt {x : Int32} {j p : Nat} (h : ¬ x ≤ nI j) (hx : x = nI p) (hp : j < 2 ^ 31) : j < p := by
  rcases Nat.lt_or_ge j p with q | q
  · exact q
  · exact absurd (by rw [hx]; exact nI_le q hp) h
theorem nI_le_of {x : Int32} {j p : Nat} (h : x ≤ nI j) (hx : x = nI p) (hp : p < 2 ^ 31) (hj : j < 2 ^ 31) : p ≤ j := by
  rw [hx] at h
  exact (nI_leI hp hj).mp h
theorem f_cost_out {o : Int32} (h : o.toInt < 4 ∨ 15 < o.toInt) : 1 = f_cost o := by
  have k : ∀ v : Int32, 4 ≤ v.toInt → v.toInt ≤ 15 → ¬ o = v := fun v a b e => by subst e; omega
  unfold f_cost
  rw [if_neg (k 4 (by decide) (by decide)), if_neg (by rintro (e | e | e | e) <;> exact k _ (by decide) (by decide) e), if_neg (by rintro (e | e | e) <;> exact k _ (by decide) (by decide) e), if_neg (k 14 (by decide) (by decide))]
theorem mpX12_56 : fP mG RX12 56 0 0 19 (.inl 19) .int := ⟨by decide +kernel, Or.inl rfl, _, _, _, _, "ThriftNodeModel", tyX12, rfl, rfl, rfl, by decide, in_X12, Or.inl q1097, Or.inl rfl, tyX12_ok, nmX12, rfl, rfl⟩
theorem mgX12_56 : fG mG RX12 56 0 0 (.inl 19) := ⟨_, _, _, _, "ThriftNodeModel", rfl, rfl, rfl, by decide, in_X12, Or.inl q1097, Or.inl rfl⟩
theorem mgX12_16 : fG mG RX12 16 0 4 (.inr (.inl 3)) := ⟨_, _, _, _, "ThriftNodeModel", rfl, rfl, rfl, by decide, in_X12, Or.inl q1101, Or.inl rfl⟩
theorem ma_kept : aG mG 3 0 164 := ⟨rfl, by decide +kernel⟩
theorem mgX12_19 : fG mG RX12 19 0 5 (.inr (.inl 4)) := ⟨_, _, _, _, "ThriftNodeModel", rfl, rfl, rfl, by decide, in_X12, Or.inl q1102, Or.inl rfl⟩
theorem ma_wear : aG mG 4 1 164 := ⟨rfl, by decide +kernel⟩
theorem mgX12_84 : fG mG RX12 84 0 22 (.inl 12) := ⟨_, _, _, _, "ThriftNodeModel", rfl, rfl, rfl, by decide, in_X12, Or.inl q1119, Or.inl rfl⟩
theorem mgX12_38 : fG mG RX12 38 0 23 (.inr (.inl 9)) := ⟨_, _, _, _, "ThriftNodeModel", rfl, rfl, rfl, by decide, in_X12, Or.inl q1120, Or.inl rfl⟩
theorem ma_where : aG mG 9 2 40 := ⟨rfl, by decide +kernel⟩
theorem mr_X12 : rG mG 0 RX12 := ⟨_, _, _, rfl, rfl⟩
theorem mgX12_41 : fG mG RX12 41 0 24 (.inr (.inl 10)) := ⟨_, _, _, _, "ThriftNodeModel", rfl, rfl, rfl, by decide, in_X12, Or.inl q1121, Or.inl rfl⟩
theorem ma_what : aG mG 10 3 40 := ⟨rfl, by decide +kernel⟩
theorem mpX12_84 : fP mG RX12 84 0 22 12 (.inl 12) .int := ⟨by decide +kernel, Or.inl rfl, _, _, _, _, "ThriftNodeModel", tyX12, rfl, rfl, rfl, by decide, in_X12, Or.inl q1119, Or.inl rfl, tyX12_ok, nmX12, rfl, rfl⟩
theorem mpX12_102 : fP mG RX12 102 0 19 9 (.inl 9) .int := ⟨by decide +kernel, Or.inl rfl, _, _, _, _, "ThriftNodeModel", tyX12, rfl, rfl, rfl, by decide, in_X12, Or.inl q1116, Or.inl rfl, tyX12_ok, nmX12, rfl, rfl⟩
theorem mpX12_96 : fP mG RX12 96 0 20 2 (.inl 2) .int := ⟨by decide +kernel, Or.inl rfl, _, _, _, _, "ThriftNodeModel", tyX12, rfl, rfl, rfl, by decide, in_X12, Or.inl q1117, Or.inl rfl, tyX12_ok, nmX12, rfl, rfl⟩
theorem mpX12_105 : fP mG RX12 105 0 21 10 (.inl 10) .int := ⟨by decide +kernel, Or.inl rfl, _, _, _, _, "ThriftNodeModel", tyX12, rfl, rfl, rfl, by decide, in_X12, Or.inl q1118, Or.inl rfl, tyX12_ok, nmX12, rfl, rfl⟩
theorem mpX12_108 : fP mG RX12 108 0 25 11 (.inl 11) .int := ⟨by decide +kernel, Or.inl rfl, _, _, _, _, "ThriftNodeModel", tyX12, rfl, rfl, rfl, by decide, in_X12, Or.inl q1122, Or.inl rfl, tyX12_ok, nmX12, rfl, rfl⟩
theorem mgX12_35 : fG mG RX12 35 0 18 (.inr (.inl 8)) := ⟨_, _, _, _, "ThriftNodeModel", rfl, rfl, rfl, by decide, in_X12, Or.inl q1115, Or.inl rfl⟩
theorem ma_register : aG mG 8 4 8 := ⟨rfl, by decide +kernel⟩
theorem mpX12_93 : fP mG RX12 93 0 11 18 (.inl 18) .int := ⟨by decide +kernel, Or.inl rfl, _, _, _, _, "ThriftNodeModel", tyX12, rfl, rfl, rfl, by decide, in_X12, Or.inl q1108, Or.inl rfl, tyX12_ok, nmX12, rfl, rfl⟩
theorem mgX12_28 : fG mG RX12 28 0 8 (.inr (.inl 7)) := ⟨_, _, _, _, "ThriftNodeModel", rfl, rfl, rfl, by decide, in_X12, Or.inl q1105, Or.inl rfl⟩
theorem ma_failures : aG mG 7 7 16 := ⟨rfl, by decide +kernel⟩
theorem mgX12_25 : fG mG RX12 25 0 7 (.inr (.inl 6)) := ⟨_, _, _, _, "ThriftNodeModel", rfl, rfl, rfl, by decide, in_X12, Or.inl q1104, Or.inl rfl⟩
theorem ma_estimate : aG mG 6 6 16 := ⟨rfl, by decide +kernel⟩
theorem mgX12_96 : fG mG RX12 96 0 20 (.inl 2) := ⟨_, _, _, _, "ThriftNodeModel", rfl, rfl, rfl, by decide, in_X12, Or.inl q1117, Or.inl rfl⟩
theorem mpX12_31 : fP mG RX12 31 0 12 4 (.inl 4) .int := ⟨by decide +kernel, Or.inl rfl, _, _, _, _, "ThriftNodeModel", tyX12, rfl, rfl, rfl, by decide, in_X12, Or.inl q1109, Or.inl rfl, tyX12_ok, nmX12, rfl, rfl⟩
theorem mgX12_90 : fG mG RX12 90 0 13 (.inl 5) := ⟨_, _, _, _, "ThriftNodeModel", rfl, rfl, rfl, by decide, in_X12, Or.inl q1110, Or.inl rfl⟩
theorem mpX12_90 : fP mG RX12 90 0 13 5 (.inl 5) .int := ⟨by decide +kernel, Or.inl rfl, _, _, _, _, "ThriftNodeModel", tyX12, rfl, rfl, rfl, by decide, in_X12, Or.inl q1110, Or.inl rfl, tyX12_ok, nmX12, rfl, rfl⟩
theorem mgX12_93 : fG mG RX12 93 0 11 (.inl 18) := ⟨_, _, _, _, "ThriftNodeModel", rfl, rfl, rfl, by decide, in_X12, Or.inl q1108, Or.inl rfl⟩
theorem mgX12_111 : fG mG RX12 111 0 9 (.inl 0) := ⟨_, _, _, _, "ThriftNodeModel", rfl, rfl, rfl, by decide, in_X12, Or.inl q1106, Or.inl rfl⟩
theorem mpX12_111 : fP mG RX12 111 0 9 0 (.inl 0) .int := ⟨by decide +kernel, Or.inl rfl, _, _, _, _, "ThriftNodeModel", tyX12, rfl, rfl, rfl, by decide, in_X12, Or.inl q1106, Or.inl rfl, tyX12_ok, nmX12, rfl, rfl⟩
theorem kX12_87 : kV RX12 87 RX12 yX12_place cX12_place 3 (some .int) 1 := ⟨lw_V q1272 q1274 qs29 q67 q1275, by decide +kernel, by decide⟩
theorem kX12_99 : kV RX12 99 RX12 yX12_endAttempt cX12_endAttempt 2 none 0 := ⟨lw_V q1237 q1239 qs21 q67 q1240, by decide +kernel, by decide⟩
theorem kX12_114 : kV RX12 114 RX12 yX12_fail cX12_fail 3 none 0 := ⟨lw_V q1249 q1251 qs24 q67 q1252, by decide +kernel, by decide⟩
set_option maxHeartbeats 4000000 in
set_option maxRecDepth 100000 in
theorem mm_isTask (dd : ClassId × ClassId × ClassId) (h : Nat → Nat) (ex : va_W) (S : XS) (t : Int32)  : Cx dd yX12_isTask cX12_isTask 1 (some .boolean) 0 mG [.int t] h ex S (some (.int (f_isTask t))) S := by
  refine Cx.intro (by decide) (by simp [Value.category]) (Nat.le_of_ble_eq_true rfl) (fun K o r hk => ?_)
  have o : Y K cX12_isTask RX12 1 0 := o
  refine y_iload o dX12_isTask_0 rfl ?_
  refine y_if_lt o dX12_isTask_1 (fun c1 => ?_) (fun c1 => ?_)
  · skip
    refine y_const o dX12_isTask_14 ?_
    exact x_zret o r dX12_isTask_15 (by first | exact Or.inl rfl | exact Or.inr rfl) (by simp only [if_true, if_false, ix, f_isTask, eq_true c1]) (by rfl)
  · skip
    refine y_iload o dX12_isTask_4 rfl ?_
    refine y_const o dX12_isTask_5 ?_
    refine y_icmp_ge o dX12_isTask_7 (fun c7 => ?_) (fun c7 => ?_)
    · skip
      refine y_const o dX12_isTask_14 ?_
      exact x_zret o r dX12_isTask_15 (by first | exact Or.inl rfl | exact Or.inr rfl) (by simp only [if_true, if_false, ix, f_isTask, eq_false c1, eq_true c7]) (by rfl)
    · skip
      refine y_const o dX12_isTask_10 ?_
      refine y_goto o dX12_isTask_11 ?_
      exact x_zret o r dX12_isTask_15 (by first | exact Or.inl rfl | exact Or.inr rfl) (by simp only [if_true, if_false, ix, f_isTask, eq_false c1, eq_false c7]) (by rfl)
set_option maxHeartbeats 4000000 in
set_option maxRecDepth 100000 in
theorem mm_op (dd : ClassId × ClassId × ClassId) (h : Nat → Nat) (ex : va_W) (S : XS) (w : Int32)  : Cx dd yX12_op cX12_op 1 (some .int) 0 mG [.int w] h ex S (some (.int (f_op w))) S := by
  refine Cx.intro (by decide) (by simp [Value.category]) (Nat.le_of_ble_eq_true rfl) (fun K o r hk => ?_)
  have o : Y K cX12_op RX12 1 0 := o
  refine y_iload o dX12_op_0 rfl ?_
  refine y_const o dX12_op_1 ?_
  refine y_iushr o dX12_op_3 ?_
  exact x_iret o r dX12_op_4 (by rfl) (by rfl)
set_option maxHeartbeats 4000000 in
set_option maxRecDepth 100000 in
theorem mm_a (dd : ClassId × ClassId × ClassId) (h : Nat → Nat) (ex : va_W) (S : XS) (w : Int32)  : Cx dd yX12_a cX12_a 1 (some .int) 0 mG [.int w] h ex S (some (.int (f_a w))) S := by
  refine Cx.intro (by decide) (by simp [Value.category]) (Nat.le_of_ble_eq_true rfl) (fun K o r hk => ?_)
  have o : Y K cX12_a RX12 1 0 := o
  refine y_iload o dX12_a_0 rfl ?_
  refine y_const o dX12_a_1 ?_
  refine y_iushr o dX12_a_3 ?_
  refine y_const o dX12_a_4 ?_
  refine y_iand o dX12_a_7 ?_
  exact x_iret o r dX12_a_8 (by rfl) (by rfl)
set_option maxHeartbeats 4000000 in
set_option maxRecDepth 100000 in
theorem mm_b (dd : ClassId × ClassId × ClassId) (h : Nat → Nat) (ex : va_W) (S : XS) (w : Int32)  : Cx dd yX12_b cX12_b 1 (some .int) 0 mG [.int w] h ex S (some (.int (f_b w))) S := by
  refine Cx.intro (by decide) (by simp [Value.category]) (Nat.le_of_ble_eq_true rfl) (fun K o r hk => ?_)
  have o : Y K cX12_b RX12 1 0 := o
  refine y_iload o dX12_b_0 rfl ?_
  refine y_const o dX12_b_1 ?_
  refine y_iushr o dX12_b_3 ?_
  refine y_const o dX12_b_4 ?_
  refine y_iand o dX12_b_7 ?_
  exact x_iret o r dX12_b_8 (by rfl) (by rfl)
set_option maxHeartbeats 4000000 in
set_option maxRecDepth 100000 in
theorem mm_c (dd : ClassId × ClassId × ClassId) (h : Nat → Nat) (ex : va_W) (S : XS) (w : Int32)  : Cx dd yX12_c cX12_c 1 (some .int) 0 mG [.int w] h ex S (some (.int (f_c w))) S := by
  refine Cx.intro (by decide) (by simp [Value.category]) (Nat.le_of_ble_eq_true rfl) (fun K o r hk => ?_)
  have o : Y K cX12_c RX12 1 0 := o
  refine y_iload o dX12_c_0 rfl ?_
  refine y_const o dX12_c_1 ?_
  refine y_iand o dX12_c_4 ?_
  exact x_iret o r dX12_c_5 (by rfl) (by rfl)
set_option maxHeartbeats 4000000 in
set_option maxRecDepth 100000 in
theorem mm_cost (dd : ClassId × ClassId × ClassId) (h : Nat → Nat) (ex : va_W) (S : XS) (w : Int32)  : Cx dd yX12_cost cX12_cost 1 (some .int) 0 mG [.int w] h ex S (some (.int (f_cost w))) S := by
  refine Cx.intro (by decide) (by simp [Value.category]) (Nat.le_of_ble_eq_true rfl) (fun K o r hk => ?_)
  have o : Y K cX12_cost RX12 1 0 := o
  refine y_iload o dX12_cost_0 rfl ?_
  refine y_top o (fun x1 ex1 => ?_)
  rcases (show x1.toInt < 4 ∨ x1.toInt = 4 ∨ x1.toInt = 5 ∨ x1.toInt = 6 ∨ x1.toInt = 7 ∨ x1.toInt = 8 ∨ x1.toInt = 9 ∨ x1.toInt = 10 ∨ x1.toInt = 11 ∨ x1.toInt = 12 ∨ x1.toInt = 13 ∨ x1.toInt = 14 ∨ x1.toInt = 15 ∨ 15 < x1.toInt by omega) with c1 | c1 | c1 | c1 | c1 | c1 | c1 | c1 | c1 | c1 | c1 | c1 | c1 | c1
  · skip
    refine y_swd o dX12_cost_1_d (Or.inl c1) ?_
    rw [ex1] at c1
    refine y_const o dX12_cost_73 ?_
    exact x_iret o r dX12_cost_74 (by first | (rw [c1]; decide) | exact f_cost_out (by omega)) (by rfl)
  · skip
    refine y_sw o dX12_cost_1_c4 c1 ?_
    have c1 : x1 = 4 := Int32.toInt_inj.mp c1
    rw [ex1] at c1
    refine y_const o dX12_cost_64 ?_
    exact x_iret o r dX12_cost_65 (by first | (rw [c1]; decide) | exact f_cost_out (by omega)) (by rfl)
  · skip
    refine y_sw o dX12_cost_1_c5 c1 ?_
    have c1 : x1 = 5 := Int32.toInt_inj.mp c1
    rw [ex1] at c1
    refine y_const o dX12_cost_73 ?_
    exact x_iret o r dX12_cost_74 (by first | (rw [c1]; decide) | exact f_cost_out (by omega)) (by rfl)
  · skip
    refine y_sw o dX12_cost_1_c6 c1 ?_
    have c1 : x1 = 6 := Int32.toInt_inj.mp c1
    rw [ex1] at c1
    refine y_const o dX12_cost_73 ?_
    exact x_iret o r dX12_cost_74 (by first | (rw [c1]; decide) | exact f_cost_out (by omega)) (by rfl)
  · skip
    refine y_sw o dX12_cost_1_c7 c1 ?_
    have c1 : x1 = 7 := Int32.toInt_inj.mp c1
    rw [ex1] at c1
    refine y_const o dX12_cost_73 ?_
    exact x_iret o r dX12_cost_74 (by first | (rw [c1]; decide) | exact f_cost_out (by omega)) (by rfl)
  · skip
    refine y_sw o dX12_cost_1_c8 c1 ?_
    have c1 : x1 = 8 := Int32.toInt_inj.mp c1
    rw [ex1] at c1
    refine y_const o dX12_cost_66 ?_
    exact x_iret o r dX12_cost_67 (by first | (rw [c1]; decide) | exact f_cost_out (by omega)) (by rfl)
  · skip
    refine y_sw o dX12_cost_1_c9 c1 ?_
    have c1 : x1 = 9 := Int32.toInt_inj.mp c1
    rw [ex1] at c1
    refine y_const o dX12_cost_66 ?_
    exact x_iret o r dX12_cost_67 (by first | (rw [c1]; decide) | exact f_cost_out (by omega)) (by rfl)
  · skip
    refine y_sw o dX12_cost_1_c10 c1 ?_
    have c1 : x1 = 10 := Int32.toInt_inj.mp c1
    rw [ex1] at c1
    refine y_const o dX12_cost_66 ?_
    exact x_iret o r dX12_cost_67 (by first | (rw [c1]; decide) | exact f_cost_out (by omega)) (by rfl)
  · skip
    refine y_sw o dX12_cost_1_c11 c1 ?_
    have c1 : x1 = 11 := Int32.toInt_inj.mp c1
    rw [ex1] at c1
    refine y_const o dX12_cost_66 ?_
    exact x_iret o r dX12_cost_67 (by first | (rw [c1]; decide) | exact f_cost_out (by omega)) (by rfl)
  · skip
    refine y_sw o dX12_cost_1_c12 c1 ?_
    have c1 : x1 = 12 := Int32.toInt_inj.mp c1
    rw [ex1] at c1
    refine y_const o dX12_cost_68 ?_
    exact x_iret o r dX12_cost_69 (by first | (rw [c1]; decide) | exact f_cost_out (by omega)) (by rfl)
  · skip
    refine y_sw o dX12_cost_1_c13 c1 ?_
    have c1 : x1 = 13 := Int32.toInt_inj.mp c1
    rw [ex1] at c1
    refine y_const o dX12_cost_68 ?_
    exact x_iret o r dX12_cost_69 (by first | (rw [c1]; decide) | exact f_cost_out (by omega)) (by rfl)
  · skip
    refine y_sw o dX12_cost_1_c14 c1 ?_
    have c1 : x1 = 14 := Int32.toInt_inj.mp c1
    rw [ex1] at c1
    refine y_const o dX12_cost_70 ?_
    exact x_iret o r dX12_cost_72 (by first | (rw [c1]; decide) | exact f_cost_out (by omega)) (by rfl)
  · skip
    refine y_sw o dX12_cost_1_c15 c1 ?_
    have c1 : x1 = 15 := Int32.toInt_inj.mp c1
    rw [ex1] at c1
    refine y_const o dX12_cost_68 ?_
    exact x_iret o r dX12_cost_69 (by first | (rw [c1]; decide) | exact f_cost_out (by omega)) (by rfl)
  · skip
    refine y_swd o dX12_cost_1_d (Or.inr c1) ?_
    rw [ex1] at c1
    refine y_const o dX12_cost_73 ?_
    exact x_iret o r dX12_cost_74 (by first | (rw [c1]; decide) | exact f_cost_out (by omega)) (by rfl)
set_option maxHeartbeats 4000000 in
set_option maxRecDepth 100000 in
theorem mm_raise (dd : ClassId × ClassId × ClassId) (h : Nat → Nat) (ex : va_W) (S : XS) (c : Int32)  : Cx dd yX12_raise cX12_raise 2 (some .int) 0 mG [.ref (h 0), .int c] h ex S (some (.int 0)) (xs S 19 c) := by
  refine Cx.intro (by decide) (by simp [Value.category]) (Nat.le_of_ble_eq_true rfl) (fun K o r hk => ?_)
  have o : Y K cX12_raise RX12 2 0 := o
  refine y_aload o dX12_raise_0 rfl ?_
  refine y_iload o dX12_raise_1 rfl ?_
  refine y_put o mpX12_56 dX12_raise_2 ?_
  refine y_const o dX12_raise_5 ?_
  exact x_iret o r dX12_raise_6 (by rfl) (by rfl)
set_option maxHeartbeats 4000000 in
set_option maxRecDepth 100000 in
theorem mm_thrown (dd : ClassId × ClassId × ClassId) (h : Nat → Nat) (ex : va_W) (S : XS)   : Cx dd yX12_thrown cX12_thrown 1 (some .int) 0 mG [.ref (h 0)] h ex S (some (.int (S.1 19))) S := by
  refine Cx.intro (by decide) (by simp [Value.category]) (Nat.le_of_ble_eq_true rfl) (fun K o r hk => ?_)
  have o : Y K cX12_thrown RX12 1 0 := o
  refine y_aload o dX12_thrown_0 rfl ?_
  refine y_get o mgX12_56 dX12_thrown_1 ?_
  exact x_iret o r dX12_thrown_4 (by rfl) (by rfl)
set_option maxHeartbeats 4000000 in
set_option maxRecDepth 100000 in
/-- a word is written -/
theorem mm_write (dd : ClassId × ClassId × ClassId) (h : Nat → Nat) (ex : va_W) (S : XS) (a : Int32) (v : Int32) (ha : vp_in a 164) : Cx dd yX12_write cX12_write 3 none 0 mG [.ref (h 0), .int a, .int v] h ex S none (f_write S a v) := by
  refine Cx.intro (by decide) (by simp [Value.category]) (Nat.le_of_ble_eq_true rfl) (fun K o r hk => ?_)
  have o : Y K cX12_write RX12 3 0 := o
  refine y_aload o dX12_write_0 rfl ?_
  refine y_getr o mgX12_16 dX12_write_1 ?_
  refine y_iload o dX12_write_4 rfl ?_
  refine y_iload o dX12_write_5 rfl ?_
  refine y_iast o ma_kept dX12_write_6 (by assumption) ?_
  refine y_aload o dX12_write_7 rfl ?_
  refine y_getr o mgX12_19 dX12_write_8 ?_
  refine y_iload o dX12_write_11 rfl ?_
  refine y_dup2 o dX12_write_12 rfl rfl ?_
  refine y_iald o ma_wear dX12_write_13 (by assumption) ?_
  refine y_const o dX12_write_14 ?_
  refine y_iadd o dX12_write_15 ?_
  refine y_iast o ma_wear dX12_write_16 (by assumption) ?_
  exact x_vret o r dX12_write_17 (by rfl)
set_option maxHeartbeats 4000000 in
set_option maxRecDepth 100000 in
theorem mm_place (dd : ClassId × ClassId × ClassId) (h : Nat → Nat) (ex : va_W) (S : XS) (a : Int32) (hp : pOk 40 S) : Cx dd yX12_place cX12_place 3 (some .int) 0 mG [.ref (h 0), .int a] h ex S (some (.int (f_place S a))) S := by
  refine Cx.intro (by decide) (by simp [Value.category]) (Nat.le_of_ble_eq_true rfl) (fun K o r hk => ?_)
  have o : Y K cX12_place RX12 3 0 := o
  obtain ⟨p, hp1, hp2⟩ := hp
  have ep : ix (S.1 12) = p := by rw [hp2]; exact nI_clamp (by omega)
  have loop : ∀ (n j : Nat), j ≤ p → p + 1 ≤ j + n → f_find (S.2 2) a (p - j) j = f_place S a → Vw K 3 (g_W (kd K).1 mG h S ++ ex) 0 0 [.ref (h 0), .int a, .int (nI j)] 2 [] := by
    intro n
    induction n with
    | zero => intro j h1 h2; exact absurd h2 (by omega)
    | succ n ih =>
      intro j h1 h2 hf
      refine y_iload o dX12_place_2 rfl ?_
      refine y_aload o dX12_place_3 rfl ?_
      refine y_get o mgX12_84 dX12_place_4 ?_
      refine y_icmp_ge o dX12_place_7 (fun c7 => ?_) (fun c7 => ?_)
      · skip
        refine y_const o dX12_place_28 ?_
        exact x_iret o r dX12_place_29 (by rw [← hf, show p - j = 0 by have := nI_le_of c7 hp2 (by omega) (by omega); omega]; rfl) (by rfl)
      · skip
        refine y_aload o dX12_place_10 rfl ?_
        refine y_getr o mgX12_38 dX12_place_11 ?_
        refine y_iload o dX12_place_14 rfl ?_
        refine y_iald o ma_where dX12_place_15 (vp_in_nI (by have := nI_nle_lt c7 hp2 (by omega); omega) (by decide)) ?_
        refine y_iload o dX12_place_16 rfl ?_
        refine y_icmp_ne o dX12_place_17 (fun c17 => ?_) (fun c17 => ?_)
        · skip
          refine y_iinc1 o dX12_place_22 rfl (by decide) ?_
          refine y_goto o dX12_place_25 ?_
          refine y_lv (lv' := [.ref (h 0), .int a, .int (nI (j + 1))]) (by rw [← nI_1]; rfl) ?_
          have hlt : j < p := nI_nle_lt c7 hp2 (by omega)
          have hs : f_find (S.2 2) a (p - j) j = f_find (S.2 2) a (p - (j + 1)) (j + 1) := by
            rw [show p - j = (p - (j + 1)) + 1 by omega]
            rw [nI_clamp (by omega)] at c17
            exact (if_neg c17)
          exact ih (j + 1) (by omega) (by omega) (hs.symm.trans hf)
        · skip
          refine y_iload o dX12_place_20 rfl ?_
          exact x_iret o r dX12_place_21 (by have hlt : j < p := nI_nle_lt c7 hp2 (by omega); rw [← hf, show p - j = (p - (j + 1)) + 1 by omega]; rw [nI_clamp (by omega)] at c17; exact (if_pos c17).symm) (by rfl)
  refine y_const o dX12_place_0 ?_
  refine y_istore o dX12_place_1 (by decide) (Nat.le_of_ble_eq_true rfl) ?_
  exact loop (p + 1) 0 (by omega) (by omega) (by unfold f_place; rw [ep]; rfl)
set_option maxHeartbeats 4000000 in
set_option maxRecDepth 100000 in
theorem mm_see (dd : ClassId × ClassId × ClassId) (h : Nat → Nat) (ex : va_W) (S : XS) (a : Int32) (ha : vp_in a 164) (hp : pOk 40 S) : Cx dd yX12_see cX12_see 3 (some .int) 1 mG [.ref (h 0), .int a] h ex S (some (.int (f_see S a))) S := by
  refine Cx.intro (by decide) (by simp [Value.category]) (Nat.le_of_ble_eq_true rfl) (fun K o r hk => ?_)
  have o : Y K cX12_see RX12 3 1 := o
  refine y_aload o dX12_see_0 rfl ?_
  refine y_iload o dX12_see_1 rfl ?_
  refine y_callVi o kX12_87 mr_X12 hk (mm_place _ h ex _ _ (hp)) (by decide) rfl rfl (Nat.le_of_ble_eq_true rfl) dX12_see_2 ?_
  refine y_istore o dX12_see_5 (by decide) (Nat.le_of_ble_eq_true rfl) ?_
  refine y_iload o dX12_see_6 rfl ?_
  refine y_const o dX12_see_7 ?_
  refine y_icmp_ne o dX12_see_8 (fun c8 => ?_) (fun c8 => ?_)
  · skip
    refine y_aload o dX12_see_20 rfl ?_
    refine y_getr o mgX12_41 dX12_see_21 ?_
    refine y_iload o dX12_see_24 rfl ?_
    refine y_iald o ma_what dX12_see_25 (f_place_in hp (by decide) c8) ?_
    exact x_iret o r dX12_see_26 (by simp only [if_true, if_false, ix, f_see, eq_false c8]) (by rfl)
  · skip
    refine y_aload o dX12_see_11 rfl ?_
    refine y_getr o mgX12_16 dX12_see_12 ?_
    refine y_iload o dX12_see_15 rfl ?_
    refine y_iald o ma_kept dX12_see_16 (by assumption) ?_
    refine y_goto o dX12_see_17 ?_
    exact x_iret o r dX12_see_26 (by simp only [if_true, if_false, ix, f_see, eq_true c8]) (by rfl)
set_option maxHeartbeats 4000000 in
set_option maxRecDepth 100000 in
theorem mm_put (dd : ClassId × ClassId × ClassId) (h : Nat → Nat) (ex : va_W) (S : XS) (a : Int32) (v : Int32) (hp : pOk 39 S) : Cx dd yX12_put cX12_put 4 none 1 mG [.ref (h 0), .int a, .int v] h ex S none (f_put S a v) := by
  refine Cx.intro (by decide) (by simp [Value.category]) (Nat.le_of_ble_eq_true rfl) (fun K o r hk => ?_)
  have o : Y K cX12_put RX12 4 1 := o
  refine y_aload o dX12_put_0 rfl ?_
  refine y_iload o dX12_put_1 rfl ?_
  refine y_callVi o kX12_87 mr_X12 hk (mm_place _ h ex _ _ (pOk.mono hp (by decide))) (by decide) rfl rfl (Nat.le_of_ble_eq_true rfl) dX12_put_2 ?_
  refine y_istore o dX12_put_5 (by decide) (Nat.le_of_ble_eq_true rfl) ?_
  refine y_iload o dX12_put_6 rfl ?_
  refine y_const o dX12_put_7 ?_
  refine y_icmp_ne o dX12_put_8 (fun c8 => ?_) (fun c8 => ?_)
  · skip
    refine y_aload o dX12_put_33 rfl ?_
    refine y_getr o mgX12_41 dX12_put_34 ?_
    refine y_iload o dX12_put_37 rfl ?_
    refine y_iload o dX12_put_38 rfl ?_
    refine y_iast o ma_what dX12_put_39 (f_place_in (n := 40) (pOk.mono hp (by decide)) (by decide) c8) ?_
    exact x_vret o r dX12_put_40 (by simp only [if_true, if_false, ix, f_put, eq_false c8])
  · skip
    refine y_aload o dX12_put_11 rfl ?_
    refine y_get o mgX12_84 dX12_put_12 ?_
    refine y_istore o dX12_put_15 (by decide) (Nat.le_of_ble_eq_true rfl) ?_
    refine y_aload o dX12_put_16 rfl ?_
    refine y_dup o dX12_put_17 rfl ?_
    refine y_get o mgX12_84 dX12_put_18 ?_
    refine y_const o dX12_put_21 ?_
    refine y_iadd o dX12_put_22 ?_
    refine y_put o mpX12_84 dX12_put_23 ?_
    refine y_aload o dX12_put_26 rfl ?_
    refine y_getr o mgX12_38 dX12_put_27 ?_
    refine y_iload o dX12_put_30 rfl ?_
    refine y_iload o dX12_put_31 rfl ?_
    refine y_iast o ma_where dX12_put_32 (pOk_in hp (by decide) (by decide)) ?_
    refine y_aload o dX12_put_33 rfl ?_
    refine y_getr o mgX12_41 dX12_put_34 ?_
    refine y_iload o dX12_put_37 rfl ?_
    refine y_iload o dX12_put_38 rfl ?_
    refine y_iast o ma_what dX12_put_39 (pOk_in hp (by decide) (by decide)) ?_
    exact x_vret o r dX12_put_40 (by simp only [if_true, if_false, ix, f_put, eq_true c8])
set_option maxHeartbeats 4000000 in
set_option maxRecDepth 100000 in
theorem mm_hasRoom (dd : ClassId × ClassId × ClassId) (h : Nat → Nat) (ex : va_W) (S : XS) (a : Int32) (b : Int32) (hp : pOk 40 S) : Cx dd yX12_hasRoom cX12_hasRoom 4 (some .boolean) 1 mG [.ref (h 0), .int a, .int b] h ex S (some (.int (f_room S a b))) S := by
  refine Cx.intro (by decide) (by simp [Value.category]) (Nat.le_of_ble_eq_true rfl) (fun K o r hk => ?_)
  have o : Y K cX12_hasRoom RX12 4 1 := o
  refine y_aload o dX12_hasRoom_0 rfl ?_
  refine y_iload o dX12_hasRoom_1 rfl ?_
  refine y_callVi o kX12_87 mr_X12 hk (mm_place _ h ex _ _ (hp)) (by decide) rfl rfl (Nat.le_of_ble_eq_true rfl) dX12_hasRoom_2 ?_
  refine y_const o dX12_hasRoom_5 ?_
  refine y_icmp_ne o dX12_hasRoom_6 (fun c6 => ?_) (fun c6 => ?_)
  · skip
    refine y_const o dX12_hasRoom_13 ?_
    refine y_istore o dX12_hasRoom_14 (by decide) (Nat.le_of_ble_eq_true rfl) ?_
    refine y_iload o dX12_hasRoom_15 rfl ?_
    refine y_iload o dX12_hasRoom_16 rfl ?_
    refine y_icmp_eq o dX12_hasRoom_17 (fun c17 => ?_) (fun c17 => ?_)
    · skip
      refine y_aload o dX12_hasRoom_32 rfl ?_
      refine y_get o mgX12_84 dX12_hasRoom_33 ?_
      refine y_iload o dX12_hasRoom_36 rfl ?_
      refine y_iadd o dX12_hasRoom_37 ?_
      refine y_const o dX12_hasRoom_38 ?_
      refine y_icmp_gt o dX12_hasRoom_40 (fun c40 => ?_) (fun c40 => ?_)
      · skip
        refine y_const o dX12_hasRoom_47 ?_
        exact x_zret o r dX12_hasRoom_48 (by first | exact Or.inl rfl | exact Or.inr rfl) (by simp only [if_true, if_false, ix, f_room, f_more, eq_false c6, eq_true c17, eq_true c40]) (by rfl)
      · skip
        refine y_const o dX12_hasRoom_43 ?_
        refine y_goto o dX12_hasRoom_44 ?_
        exact x_zret o r dX12_hasRoom_48 (by first | exact Or.inl rfl | exact Or.inr rfl) (by simp only [if_true, if_false, ix, f_room, f_more, eq_false c6, eq_true c17, eq_false c40]) (by rfl)
    · skip
      refine y_aload o dX12_hasRoom_20 rfl ?_
      refine y_iload o dX12_hasRoom_21 rfl ?_
      refine y_callVi o kX12_87 mr_X12 hk (mm_place _ h ex _ _ (hp)) (by decide) rfl rfl (Nat.le_of_ble_eq_true rfl) dX12_hasRoom_22 ?_
      refine y_const o dX12_hasRoom_25 ?_
      refine y_icmp_ne o dX12_hasRoom_26 (fun c26 => ?_) (fun c26 => ?_)
      · skip
        refine y_aload o dX12_hasRoom_32 rfl ?_
        refine y_get o mgX12_84 dX12_hasRoom_33 ?_
        refine y_iload o dX12_hasRoom_36 rfl ?_
        refine y_iadd o dX12_hasRoom_37 ?_
        refine y_const o dX12_hasRoom_38 ?_
        refine y_icmp_gt o dX12_hasRoom_40 (fun c40 => ?_) (fun c40 => ?_)
        · skip
          refine y_const o dX12_hasRoom_47 ?_
          exact x_zret o r dX12_hasRoom_48 (by first | exact Or.inl rfl | exact Or.inr rfl) (by simp only [if_true, if_false, ix, f_room, f_more, eq_false c6, eq_false c17, eq_false c26, eq_true c40]) (by rfl)
        · skip
          refine y_const o dX12_hasRoom_43 ?_
          refine y_goto o dX12_hasRoom_44 ?_
          exact x_zret o r dX12_hasRoom_48 (by first | exact Or.inl rfl | exact Or.inr rfl) (by simp only [if_true, if_false, ix, f_room, f_more, eq_false c6, eq_false c17, eq_false c26, eq_false c40]) (by rfl)
      · skip
        refine y_iinc1 o dX12_hasRoom_29 rfl (by decide) ?_
        refine y_aload o dX12_hasRoom_32 rfl ?_
        refine y_get o mgX12_84 dX12_hasRoom_33 ?_
        refine y_iload o dX12_hasRoom_36 rfl ?_
        refine y_iadd o dX12_hasRoom_37 ?_
        refine y_const o dX12_hasRoom_38 ?_
        refine y_icmp_gt o dX12_hasRoom_40 (fun c40 => ?_) (fun c40 => ?_)
        · skip
          refine y_const o dX12_hasRoom_47 ?_
          exact x_zret o r dX12_hasRoom_48 (by first | exact Or.inl rfl | exact Or.inr rfl) (by simp only [if_true, if_false, ix, f_room, f_more, eq_false c6, eq_false c17, eq_true c26, eq_true c40]) (by rfl)
        · skip
          refine y_const o dX12_hasRoom_43 ?_
          refine y_goto o dX12_hasRoom_44 ?_
          exact x_zret o r dX12_hasRoom_48 (by first | exact Or.inl rfl | exact Or.inr rfl) (by simp only [if_true, if_false, ix, f_room, f_more, eq_false c6, eq_false c17, eq_true c26, eq_false c40]) (by rfl)
  · skip
    refine y_const o dX12_hasRoom_9 ?_
    refine y_goto o dX12_hasRoom_10 ?_
    refine y_istore o dX12_hasRoom_14 (by decide) (Nat.le_of_ble_eq_true rfl) ?_
    refine y_iload o dX12_hasRoom_15 rfl ?_
    refine y_iload o dX12_hasRoom_16 rfl ?_
    refine y_icmp_eq o dX12_hasRoom_17 (fun c17 => ?_) (fun c17 => ?_)
    · skip
      refine y_aload o dX12_hasRoom_32 rfl ?_
      refine y_get o mgX12_84 dX12_hasRoom_33 ?_
      refine y_iload o dX12_hasRoom_36 rfl ?_
      refine y_iadd o dX12_hasRoom_37 ?_
      refine y_const o dX12_hasRoom_38 ?_
      refine y_icmp_gt o dX12_hasRoom_40 (fun c40 => ?_) (fun c40 => ?_)
      · skip
        refine y_const o dX12_hasRoom_47 ?_
        exact x_zret o r dX12_hasRoom_48 (by first | exact Or.inl rfl | exact Or.inr rfl) (by simp only [if_true, if_false, ix, f_room, f_more, eq_true c6, eq_true c17, eq_true c40]) (by rfl)
      · skip
        refine y_const o dX12_hasRoom_43 ?_
        refine y_goto o dX12_hasRoom_44 ?_
        exact x_zret o r dX12_hasRoom_48 (by first | exact Or.inl rfl | exact Or.inr rfl) (by simp only [if_true, if_false, ix, f_room, f_more, eq_true c6, eq_true c17, eq_false c40]) (by rfl)
    · skip
      refine y_aload o dX12_hasRoom_20 rfl ?_
      refine y_iload o dX12_hasRoom_21 rfl ?_
      refine y_callVi o kX12_87 mr_X12 hk (mm_place _ h ex _ _ (hp)) (by decide) rfl rfl (Nat.le_of_ble_eq_true rfl) dX12_hasRoom_22 ?_
      refine y_const o dX12_hasRoom_25 ?_
      refine y_icmp_ne o dX12_hasRoom_26 (fun c26 => ?_) (fun c26 => ?_)
      · skip
        refine y_aload o dX12_hasRoom_32 rfl ?_
        refine y_get o mgX12_84 dX12_hasRoom_33 ?_
        refine y_iload o dX12_hasRoom_36 rfl ?_
        refine y_iadd o dX12_hasRoom_37 ?_
        refine y_const o dX12_hasRoom_38 ?_
        refine y_icmp_gt o dX12_hasRoom_40 (fun c40 => ?_) (fun c40 => ?_)
        · skip
          refine y_const o dX12_hasRoom_47 ?_
          exact x_zret o r dX12_hasRoom_48 (by first | exact Or.inl rfl | exact Or.inr rfl) (by simp only [if_true, if_false, ix, f_room, f_more, eq_true c6, eq_false c17, eq_false c26, eq_true c40]) (by rfl)
        · skip
          refine y_const o dX12_hasRoom_43 ?_
          refine y_goto o dX12_hasRoom_44 ?_
          exact x_zret o r dX12_hasRoom_48 (by first | exact Or.inl rfl | exact Or.inr rfl) (by simp only [if_true, if_false, ix, f_room, f_more, eq_true c6, eq_false c17, eq_false c26, eq_false c40]) (by rfl)
      · skip
        refine y_iinc1 o dX12_hasRoom_29 rfl (by decide) ?_
        refine y_aload o dX12_hasRoom_32 rfl ?_
        refine y_get o mgX12_84 dX12_hasRoom_33 ?_
        refine y_iload o dX12_hasRoom_36 rfl ?_
        refine y_iadd o dX12_hasRoom_37 ?_
        refine y_const o dX12_hasRoom_38 ?_
        refine y_icmp_gt o dX12_hasRoom_40 (fun c40 => ?_) (fun c40 => ?_)
        · skip
          refine y_const o dX12_hasRoom_47 ?_
          exact x_zret o r dX12_hasRoom_48 (by first | exact Or.inl rfl | exact Or.inr rfl) (by simp only [if_true, if_false, ix, f_room, f_more, eq_true c6, eq_false c17, eq_true c26, eq_true c40]) (by rfl)
        · skip
          refine y_const o dX12_hasRoom_43 ?_
          refine y_goto o dX12_hasRoom_44 ?_
          exact x_zret o r dX12_hasRoom_48 (by first | exact Or.inl rfl | exact Or.inr rfl) (by simp only [if_true, if_false, ix, f_room, f_more, eq_true c6, eq_false c17, eq_true c26, eq_false c40]) (by rfl)
set_option maxHeartbeats 4000000 in
set_option maxRecDepth 100000 in
theorem mm_end (dd : ClassId × ClassId × ClassId) (h : Nat → Nat) (ex : va_W) (S : XS)   : Cx dd yX12_endAttempt cX12_endAttempt 2 none 0 mG [.ref (h 0)] h ex S none (f_end S) := by
  refine Cx.intro (by decide) (by simp [Value.category]) (Nat.le_of_ble_eq_true rfl) (fun K o r hk => ?_)
  have o : Y K cX12_endAttempt RX12 2 0 := o
  have loop : ∀ (n j : Nat) (T : XS), j + n = 8 → f_clr T n j = f_clr S 8 0 → Vw K 2 (g_W (kd K).1 mG h T ++ ex) 0 0 [.ref (h 0), .int (nI j)] 2 [] := by
    intro n
    induction n with
    | zero =>
      intro j T h1 hf
      have hj : j = 8 := by omega
      subst hj
      refine y_iload o dX12_endAttempt_2 rfl ?_
      refine y_const o dX12_endAttempt_3 ?_
      refine y_icmp_ge o dX12_endAttempt_5 (fun c5 => ?_) (fun c5 => ?_)
      · skip
        refine y_aload o dX12_endAttempt_21 rfl ?_
        refine y_const o dX12_endAttempt_22 ?_
        refine y_put o mpX12_102 dX12_endAttempt_23 ?_
        refine y_aload o dX12_endAttempt_26 rfl ?_
        refine y_const o dX12_endAttempt_27 ?_
        refine y_put o mpX12_96 dX12_endAttempt_28 ?_
        refine y_aload o dX12_endAttempt_31 rfl ?_
        refine y_const o dX12_endAttempt_32 ?_
        refine y_put o mpX12_105 dX12_endAttempt_33 ?_
        refine y_aload o dX12_endAttempt_36 rfl ?_
        refine y_const o dX12_endAttempt_37 ?_
        refine y_put o mpX12_84 dX12_endAttempt_38 ?_
        refine y_aload o dX12_endAttempt_41 rfl ?_
        refine y_const o dX12_endAttempt_42 ?_
        refine y_put o mpX12_108 dX12_endAttempt_43 ?_
        exact x_vret o r dX12_endAttempt_46 (by (have hf : T = f_clr S 8 0 := hf); rw [hf]; rfl)
      · skip
        exact absurd (by decide) c5
    | succ n ih =>
      intro j T h1 hf
      refine y_iload o dX12_endAttempt_2 rfl ?_
      refine y_const o dX12_endAttempt_3 ?_
      refine y_icmp_ge o dX12_endAttempt_5 (fun c5 => ?_) (fun c5 => ?_)
      · skip
        exact absurd c5 (nI_ge (a := j) (b := 8) (by omega) (by decide))
      · skip
        refine y_aload o dX12_endAttempt_8 rfl ?_
        refine y_getr o mgX12_35 dX12_endAttempt_9 ?_
        refine y_iload o dX12_endAttempt_12 rfl ?_
        refine y_const o dX12_endAttempt_13 ?_
        refine y_iast o ma_register dX12_endAttempt_14 (vp_in_nI (by omega) (by decide)) ?_
        refine y_iinc1 o dX12_endAttempt_15 rfl (by decide) ?_
        refine y_goto o dX12_endAttempt_18 ?_
        refine y_lv (lv' := [.ref (h 0), .int (nI (j + 1))]) (by rw [← nI_1]; rfl) ?_
        refine ih (j + 1) _ (by omega) ?_
        rw [nI_clamp (by omega)]
        exact hf
  refine y_const o dX12_endAttempt_0 ?_
  refine y_istore o dX12_endAttempt_1 (by decide) (Nat.le_of_ble_eq_true rfl) ?_
  exact loop 8 0 S rfl rfl
set_option maxHeartbeats 4000000 in
set_option maxRecDepth 100000 in
theorem mm_fail (dd : ClassId × ClassId × ClassId) (h : Nat → Nat) (ex : va_W) (S : XS)  (ht : vp_in (S.2 0 0) 16) : Cx dd yX12_fail cX12_fail 3 none 1 mG [.ref (h 0)] h ex S none (f_fail S) := by
  refine Cx.intro (by decide) (by simp [Value.category]) (Nat.le_of_ble_eq_true rfl) (fun K o r hk => ?_)
  have o : Y K cX12_fail RX12 3 1 := o
  have j119 : ∀ (T : XS), f_end (xs T 18 0) = f_fail S → Vw K 3 (g_W (kd K).1 mG h T ++ ex) 0 0 [.ref (h 0)] 119 [] := by
    intro T hT
    refine y_aload o dX12_fail_119 rfl ?_
    refine y_const o dX12_fail_120 ?_
    refine y_put o mpX12_93 dX12_fail_121 ?_
    refine y_aload o dX12_fail_124 rfl ?_
    refine y_callVv o kX12_99 mr_X12 hk (mm_end _ h ex _ ) (by decide) rfl rfl (Nat.le_of_ble_eq_true rfl) dX12_fail_125 ?_
    exact x_vret o r dX12_fail_128 (by exact hT)
  have j35 : ∀ (T : XS), vp_in (T.2 0 0) 16 → f_end (xs (f_count T (T.2 0 0)) 18 0) = f_fail S → Vw K 3 (g_W (kd K).1 mG h T ++ ex) 0 0 [.ref (h 0)] 35 [] := by
    intro T ht hT
    refine y_aload o dX12_fail_35 rfl ?_
    refine y_getr o mgX12_16 dX12_fail_36 ?_
    refine y_const o dX12_fail_39 ?_
    refine y_ialdc (j0 := 0) o ma_kept dX12_fail_40 (by unfold vp_in; decide) (by decide) ?_
    refine y_istore o dX12_fail_41 (by decide) (Nat.le_of_ble_eq_true rfl) ?_
    refine y_aload o dX12_fail_42 rfl ?_
    refine y_getr o mgX12_28 dX12_fail_43 ?_
    refine y_iload o dX12_fail_46 rfl ?_
    refine y_dup2 o dX12_fail_47 rfl rfl ?_
    refine y_iald o ma_failures dX12_fail_48 (by assumption) ?_
    refine y_const o dX12_fail_49 ?_
    refine y_iadd o dX12_fail_50 ?_
    refine y_iast o ma_failures dX12_fail_51 (by assumption) ?_
    refine y_aload o dX12_fail_52 rfl ?_
    refine y_getr o mgX12_25 dX12_fail_53 ?_
    refine y_iload o dX12_fail_56 rfl ?_
    refine y_iald o ma_estimate dX12_fail_57 (by assumption) ?_
    refine y_aload o dX12_fail_58 rfl ?_
    refine y_get o mgX12_96 dX12_fail_59 ?_
    refine y_icmp_le o dX12_fail_62 (fun c62 => ?_) (fun c62 => ?_)
    · skip
      refine y_aload o dX12_fail_74 rfl ?_
      refine y_get o mgX12_96 dX12_fail_75 ?_
      refine y_istore o dX12_fail_78 (by decide) (Nat.le_of_ble_eq_true rfl) ?_
      refine y_aload o dX12_fail_79 rfl ?_
      refine y_getr o mgX12_25 dX12_fail_80 ?_
      refine y_iload o dX12_fail_83 rfl ?_
      refine y_const o dX12_fail_84 ?_
      refine y_iload o dX12_fail_85 rfl ?_
      refine y_imul o dX12_fail_86 ?_
      refine y_const o dX12_fail_87 ?_
      refine y_icmp_le o dX12_fail_90 (fun c90 => ?_) (fun c90 => ?_)
      · skip
        refine y_const o dX12_fail_99 ?_
        refine y_iload o dX12_fail_100 rfl ?_
        refine y_imul o dX12_fail_101 ?_
        refine y_iast o ma_estimate dX12_fail_102 (by assumption) ?_
        refine y_aload o dX12_fail_103 rfl ?_
        refine y_getr o mgX12_28 dX12_fail_104 ?_
        refine y_iload o dX12_fail_107 rfl ?_
        refine y_iald o ma_failures dX12_fail_108 (by assumption) ?_
        refine y_const o dX12_fail_109 ?_
        refine y_icmp_ne o dX12_fail_111 (fun c111 => ?_) (fun c111 => ?_)
        · skip
          refine y_take 1 rfl ?_
          exact j119 _ (by rw [← hT]; simp only [if_true, if_false, ix, f_count, f_count1, f_count2, f_count3, f_most, f_twice, eq_true c62, eq_true c90, eq_false c111])
        · skip
          refine y_aload o dX12_fail_114 rfl ?_
          refine y_iload o dX12_fail_115 rfl ?_
          refine y_put o mpX12_31 dX12_fail_116 ?_
          refine y_take 1 rfl ?_
          exact j119 _ (by rw [← hT]; simp only [if_true, if_false, ix, f_count, f_count1, f_count2, f_count3, f_most, f_twice, eq_true c62, eq_true c90, eq_true c111])
      · skip
        refine y_const o dX12_fail_93 ?_
        refine y_goto o dX12_fail_96 ?_
        refine y_iast o ma_estimate dX12_fail_102 (by assumption) ?_
        refine y_aload o dX12_fail_103 rfl ?_
        refine y_getr o mgX12_28 dX12_fail_104 ?_
        refine y_iload o dX12_fail_107 rfl ?_
        refine y_iald o ma_failures dX12_fail_108 (by assumption) ?_
        refine y_const o dX12_fail_109 ?_
        refine y_icmp_ne o dX12_fail_111 (fun c111 => ?_) (fun c111 => ?_)
        · skip
          refine y_take 1 rfl ?_
          exact j119 _ (by rw [← hT]; simp only [if_true, if_false, ix, f_count, f_count1, f_count2, f_count3, f_most, f_twice, eq_true c62, eq_false c90, eq_false c111])
        · skip
          refine y_aload o dX12_fail_114 rfl ?_
          refine y_iload o dX12_fail_115 rfl ?_
          refine y_put o mpX12_31 dX12_fail_116 ?_
          refine y_take 1 rfl ?_
          exact j119 _ (by rw [← hT]; simp only [if_true, if_false, ix, f_count, f_count1, f_count2, f_count3, f_most, f_twice, eq_true c62, eq_false c90, eq_true c111])
    · skip
      refine y_aload o dX12_fail_65 rfl ?_
      refine y_getr o mgX12_25 dX12_fail_66 ?_
      refine y_iload o dX12_fail_69 rfl ?_
      refine y_iald o ma_estimate dX12_fail_70 (by assumption) ?_
      refine y_goto o dX12_fail_71 ?_
      refine y_istore o dX12_fail_78 (by decide) (Nat.le_of_ble_eq_true rfl) ?_
      refine y_aload o dX12_fail_79 rfl ?_
      refine y_getr o mgX12_25 dX12_fail_80 ?_
      refine y_iload o dX12_fail_83 rfl ?_
      refine y_const o dX12_fail_84 ?_
      refine y_iload o dX12_fail_85 rfl ?_
      refine y_imul o dX12_fail_86 ?_
      refine y_const o dX12_fail_87 ?_
      refine y_icmp_le o dX12_fail_90 (fun c90 => ?_) (fun c90 => ?_)
      · skip
        refine y_const o dX12_fail_99 ?_
        refine y_iload o dX12_fail_100 rfl ?_
        refine y_imul o dX12_fail_101 ?_
        refine y_iast o ma_estimate dX12_fail_102 (by assumption) ?_
        refine y_aload o dX12_fail_103 rfl ?_
        refine y_getr o mgX12_28 dX12_fail_104 ?_
        refine y_iload o dX12_fail_107 rfl ?_
        refine y_iald o ma_failures dX12_fail_108 (by assumption) ?_
        refine y_const o dX12_fail_109 ?_
        refine y_icmp_ne o dX12_fail_111 (fun c111 => ?_) (fun c111 => ?_)
        · skip
          refine y_take 1 rfl ?_
          exact j119 _ (by rw [← hT]; simp only [if_true, if_false, ix, f_count, f_count1, f_count2, f_count3, f_most, f_twice, eq_false c62, eq_true c90, eq_false c111])
        · skip
          refine y_aload o dX12_fail_114 rfl ?_
          refine y_iload o dX12_fail_115 rfl ?_
          refine y_put o mpX12_31 dX12_fail_116 ?_
          refine y_take 1 rfl ?_
          exact j119 _ (by rw [← hT]; simp only [if_true, if_false, ix, f_count, f_count1, f_count2, f_count3, f_most, f_twice, eq_false c62, eq_true c90, eq_true c111])
      · skip
        refine y_const o dX12_fail_93 ?_
        refine y_goto o dX12_fail_96 ?_
        refine y_iast o ma_estimate dX12_fail_102 (by assumption) ?_
        refine y_aload o dX12_fail_103 rfl ?_
        refine y_getr o mgX12_28 dX12_fail_104 ?_
        refine y_iload o dX12_fail_107 rfl ?_
        refine y_iald o ma_failures dX12_fail_108 (by assumption) ?_
        refine y_const o dX12_fail_109 ?_
        refine y_icmp_ne o dX12_fail_111 (fun c111 => ?_) (fun c111 => ?_)
        · skip
          refine y_take 1 rfl ?_
          exact j119 _ (by rw [← hT]; simp only [if_true, if_false, ix, f_count, f_count1, f_count2, f_count3, f_most, f_twice, eq_false c62, eq_false c90, eq_false c111])
        · skip
          refine y_aload o dX12_fail_114 rfl ?_
          refine y_iload o dX12_fail_115 rfl ?_
          refine y_put o mpX12_31 dX12_fail_116 ?_
          refine y_take 1 rfl ?_
          exact j119 _ (by rw [← hT]; simp only [if_true, if_false, ix, f_count, f_count1, f_count2, f_count3, f_most, f_twice, eq_false c62, eq_false c90, eq_true c111])
  refine y_aload o dX12_fail_0 rfl ?_
  refine y_dup o dX12_fail_1 rfl ?_
  refine y_get o mgX12_90 dX12_fail_2 ?_
  refine y_const o dX12_fail_5 ?_
  refine y_iadd o dX12_fail_6 ?_
  refine y_put o mpX12_90 dX12_fail_7 ?_
  refine y_aload o dX12_fail_10 rfl ?_
  refine y_get o mgX12_93 dX12_fail_11 ?_
  refine y_const o dX12_fail_14 ?_
  refine y_icmp_eq o dX12_fail_15 (fun c15 => ?_) (fun c15 => ?_)
  · skip
    refine y_take 1 rfl ?_
    exact j35 _ ht (by simp only [if_true, if_false, f_fail, f_fail1, eq_true c15])
  · skip
    refine y_aload o dX12_fail_18 rfl ?_
    refine y_get o mgX12_93 dX12_fail_19 ?_
    refine y_const o dX12_fail_22 ?_
    refine y_icmp_ne o dX12_fail_23 (fun c23 => ?_) (fun c23 => ?_)
    · skip
      exact j119 _ (by simp only [if_true, if_false, f_fail, f_fail1, eq_false c15, eq_false c23])
    · skip
      refine y_aload o dX12_fail_26 rfl ?_
      refine y_getr o mgX12_16 dX12_fail_27 ?_
      refine y_const o dX12_fail_30 ?_
      refine y_ialdc (j0 := 2) o ma_kept dX12_fail_31 (by unfold vp_in; decide) (by decide) ?_
      refine y_if_ne o dX12_fail_32 (fun c32 => ?_) (fun c32 => ?_)
      · skip
        exact j119 _ (by simp only [if_true, if_false, f_fail, f_fail1, eq_false c15, eq_true c23, eq_false c32])
      · skip
        refine y_take 1 rfl ?_
        exact j35 _ ht (by simp only [if_true, if_false, f_fail, f_fail1, eq_false c15, eq_true c23, eq_true c32])
set_option maxHeartbeats 4000000 in
set_option maxRecDepth 100000 in
theorem mm_pays (dd : ClassId × ClassId × ClassId) (h : Nat → Nat) (ex : va_W) (S : XS) (c : Int32) (ht : vp_in (S.2 0 0) 16) : Cx dd yX12_pays cX12_pays 2 (some .boolean) 2 mG [.ref (h 0), .int c] h ex S (some (.int (f_paysR S c))) (f_pays S c) := by
  refine Cx.intro (by decide) (by simp [Value.category]) (Nat.le_of_ble_eq_true rfl) (fun K o r hk => ?_)
  have o : Y K cX12_pays RX12 2 2 := o
  refine y_iload o dX12_pays_0 rfl ?_
  refine y_aload o dX12_pays_1 rfl ?_
  refine y_get o mgX12_111 dX12_pays_2 ?_
  refine y_icmp_le o dX12_pays_5 (fun c5 => ?_) (fun c5 => ?_)
  · skip
    refine y_aload o dX12_pays_14 rfl ?_
    refine y_dup o dX12_pays_15 rfl ?_
    refine y_get o mgX12_111 dX12_pays_16 ?_
    refine y_iload o dX12_pays_19 rfl ?_
    refine y_isub o dX12_pays_20 ?_
    refine y_put o mpX12_111 dX12_pays_21 ?_
    refine y_aload o dX12_pays_24 rfl ?_
    refine y_get o mgX12_93 dX12_pays_25 ?_
    refine y_const o dX12_pays_28 ?_
    refine y_icmp_eq o dX12_pays_29 (fun c29 => ?_) (fun c29 => ?_)
    · skip
      refine y_aload o dX12_pays_40 rfl ?_
      refine y_dup o dX12_pays_41 rfl ?_
      refine y_get o mgX12_96 dX12_pays_42 ?_
      refine y_iload o dX12_pays_45 rfl ?_
      refine y_iadd o dX12_pays_46 ?_
      refine y_put o mpX12_96 dX12_pays_47 ?_
      refine y_const o dX12_pays_50 ?_
      exact x_zret o r dX12_pays_51 (by first | exact Or.inl rfl | exact Or.inr rfl) (by simp only [if_true, if_false, ix, f_paysR, eq_true c5, eq_true c29]) (by simp only [if_true, if_false, ix, f_pays, f_spend, eq_true c5, eq_true c29])
    · skip
      refine y_aload o dX12_pays_32 rfl ?_
      refine y_get o mgX12_93 dX12_pays_33 ?_
      refine y_const o dX12_pays_36 ?_
      refine y_icmp_ne o dX12_pays_37 (fun c37 => ?_) (fun c37 => ?_)
      · skip
        refine y_const o dX12_pays_50 ?_
        exact x_zret o r dX12_pays_51 (by first | exact Or.inl rfl | exact Or.inr rfl) (by simp only [if_true, if_false, ix, f_paysR, eq_true c5, eq_false c29, eq_false c37]) (by simp only [if_true, if_false, ix, f_pays, f_spend, eq_true c5, eq_false c29, eq_false c37])
      · skip
        refine y_aload o dX12_pays_40 rfl ?_
        refine y_dup o dX12_pays_41 rfl ?_
        refine y_get o mgX12_96 dX12_pays_42 ?_
        refine y_iload o dX12_pays_45 rfl ?_
        refine y_iadd o dX12_pays_46 ?_
        refine y_put o mpX12_96 dX12_pays_47 ?_
        refine y_const o dX12_pays_50 ?_
        exact x_zret o r dX12_pays_51 (by first | exact Or.inl rfl | exact Or.inr rfl) (by simp only [if_true, if_false, ix, f_paysR, eq_true c5, eq_false c29, eq_true c37]) (by simp only [if_true, if_false, ix, f_pays, f_spend, eq_true c5, eq_false c29, eq_true c37])
  · skip
    refine y_aload o dX12_pays_8 rfl ?_
    refine y_callVv o kX12_114 mr_X12 hk (mm_fail _ h ex _ (ht)) (by decide) rfl rfl (Nat.le_of_ble_eq_true rfl) dX12_pays_9 ?_
    refine y_const o dX12_pays_12 ?_
    exact x_zret o r dX12_pays_13 (by first | exact Or.inl rfl | exact Or.inr rfl) (by simp only [if_true, if_false, ix, f_paysR, eq_false c5]) (by simp only [if_true, if_false, ix, f_pays, f_spend, eq_false c5])
set_option maxHeartbeats 4000000 in
set_option maxRecDepth 100000 in
theorem mm_begin (dd : ClassId × ClassId × ClassId) (h : Nat → Nat) (ex : va_W) (S : XS)   : Cx dd yX12_beginAttempt cX12_beginAttempt 1 none 1 mG [.ref (h 0)] h ex S none (xs (f_end S) 18 3) := by
  refine Cx.intro (by decide) (by simp [Value.category]) (Nat.le_of_ble_eq_true rfl) (fun K o r hk => ?_)
  have o : Y K cX12_beginAttempt RX12 1 1 := o
  refine y_aload o dX12_beginAttempt_0 rfl ?_
  refine y_callVv o kX12_99 mr_X12 hk (mm_end _ h ex _ ) (by decide) rfl rfl (Nat.le_of_ble_eq_true rfl) dX12_beginAttempt_1 ?_
  refine y_aload o dX12_beginAttempt_4 rfl ?_
  refine y_const o dX12_beginAttempt_5 ?_
  refine y_put o mpX12_93 dX12_beginAttempt_6 ?_
  exact x_vret o r dX12_beginAttempt_9 (by rfl)
