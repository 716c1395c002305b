/-! constructors -/
set_option maxRecDepth 100000
section YA
variable {K : YK} {cc : ByteArray} {own : String} {nL d : Nat} {ws l : va_W} {k n : Nat} {lv : List Value} {pc pc' : Nat} {st : List Value}
theorem get_app {α : Type} (ws l : List α) (k : Nat) : (ws ++ l)[ws.length + k]? = l[k]? := by
  rw [List.getElem?_append_right (by omega)]
  congr 1
  omega
theorem set_app {α : Type} (ws l : List α) (k : Nat) (x : α) : (ws ++ l).set (ws.length + k) x = ws ++ l.set k x := by simp
theorem y_putFA (o : Y K cc own nL d) (hi : (kM K).name = "<init>") {b ci k0 idx : Nat} {fs : List Value} {v : Value} {ty : FieldType} {l' : va_W} (F : fMf own idx ci k0 ty) (q : Nat) (he : l[q]? = some (b, .inr (ci, fs))) (hlen : k0 < fs.length) (hn : narrow ty v = v) (hfit : fits ty v = true) (dd : dk cc pc (.putfield idx) 3 pc') (hw : l.set q (b, .inr (ci, fs.set k0 v)) = l') (kk : Vw K nL (ws ++ l') k n lv pc' st) : Vw K nL (ws ++ l) k n lv pc (v :: .ref b :: st) :=
  y_putF o hi F (ws.length + q) ((get_app ws l q).trans he) hlen hn hfit dd ((set_app ws l q _).trans (by rw [hw])) kk
theorem y_putMA (o : Y K cc own nL d) {b ci k0 idx : Nat} {fs : List Value} {v : Value} {ty : FieldType} {l' : va_W} (F : fMp own idx ci k0 ty) (q : Nat) (he : l[q]? = some (b, .inr (ci, fs))) (hlen : k0 < fs.length) (hn : narrow ty v = v) (hfit : fits ty v = true) (dd : dk cc pc (.putfield idx) 3 pc') (hw : l.set q (b, .inr (ci, fs.set k0 v)) = l') (kk : Vw K nL (ws ++ l') k n lv pc' st) : Vw K nL (ws ++ l) k n lv pc (v :: .ref b :: st) :=
  y_putM o F (ws.length + q) ((get_app ws l q).trans he) hlen hn hfit dd ((set_app ws l q _).trans (by rw [hw])) kk
theorem y_newA (o : Y K cc own nL d) {idx ci N : Nat} {fs : List Value} {l' : Nat → va_W} (F : nM own idx ci N fs) (hc : k + 1 ≤ (kR K).cells) (hs : n + N ≤ (kR K).slots) (dd : dk cc pc (.new idx) 3 pc') (hw : ∀ q, l ++ [(q, .inr (ci, fs))] = l' q) (kk : ∀ q : Nat, Vw K nL (ws ++ l' q) (k + 1) (n + N) lv pc' (.ref q :: st)) : Vw K nL (ws ++ l) k n lv pc st :=
  y_new o F hc hs dd (fun q => y_we (by rw [List.append_assoc, hw]) (kk q))
theorem y_newiA (o : Y K cc own nL d) {m : Int32} {N : Nat} {l' : Nat → va_W} (ha : Cond.arrayClass .int ∈ lw_all) (hm : ¬ m < 0) (hN : m.toNatClampNeg = N) (hB : N ≤ 1000) (hc : k + 1 ≤ (kR K).cells) (hs : n + N ≤ (kR K).slots) (dd : dk cc pc (.newarray .int) 2 pc') (hw : ∀ q, l ++ [(q, .inl ((kd K).1, N, .inl (fun _ => 0)))] = l' q) (kk : ∀ q : Nat, Vw K nL (ws ++ l' q) (k + 1) (n + N) lv pc' (.ref q :: st)) : Vw K nL (ws ++ l) k n lv pc (.int m :: st) :=
  y_newi o ha hm hN hB hc hs dd (fun q => y_we (by rw [List.append_assoc, hw]) (kk q))
end YA
theorem kX8_3 : kI RX8 3 yX7_init cX7_init 2 1 := ⟨q574, q62, q573, rfl, Or.inl q572, by decide +kernel, by decide⟩
theorem kX9_3 : kI RX9 3 yX7_init cX7_init 2 1 := ⟨q574, q62, q573, rfl, Or.inl q597, by decide +kernel, by decide⟩
theorem kX10_3 : kI RX10 3 yX7_init cX7_init 2 1 := ⟨q574, q62, q573, rfl, Or.inl q609, by decide +kernel, by decide⟩
theorem kX11_3 : kI RX11 3 yX7_init cX7_init 2 1 := ⟨q574, q62, q573, rfl, Or.inl q624, by decide +kernel, by decide⟩
theorem zFX3_9_X3 : fMf RX3 9 3 0 (.array .int) := ⟨_, _, _, "ThriftNode$Kept", tyX3, rfl, by decide, in_X3, q94, Or.inl rfl, tyX3_ok, nmX3, rfl, rfl, rfl⟩
theorem zFX3_13_X3 : fMf RX3 13 3 1 (.array .int) := ⟨_, _, _, "ThriftNode$Kept", tyX3, rfl, by decide, in_X3, q102, Or.inl rfl, tyX3_ok, nmX3, rfl, rfl, rfl⟩
theorem zFX4_11_X4 : fMf RX4 11 4 1 (.array .int) := ⟨_, _, _, "ThriftNode$Pending", tyX4, rfl, by decide, in_X4, q117, Or.inl rfl, tyX4_ok, nmX4, rfl, rfl, rfl⟩
theorem zFX4_15_X4 : fMf RX4 15 4 2 (.array .int) := ⟨_, _, _, "ThriftNode$Pending", tyX4, rfl, by decide, in_X4, q119, Or.inl rfl, tyX4_ok, nmX4, rfl, rfl, rfl⟩
theorem zFX4_18_X4 : fMf RX4 18 4 0 (.object "ThriftNode$Kept") := ⟨_, _, _, "ThriftNode$Pending", tyX4, rfl, by decide, in_X4, q116, Or.inl rfl, tyX4_ok, nmX4, rfl, rfl, rfl⟩
theorem zFX6_9_X6 : fMf RX6 9 6 0 (.array .int) := ⟨_, _, _, "ThriftNode$Air", tyX6, rfl, by decide, in_X6, q547, Or.inl rfl, tyX6_ok, nmX6, rfl, rfl, rfl⟩
theorem zFX6_13_X6 : fMf RX6 13 6 1 (.array .int) := ⟨_, _, _, "ThriftNode$Air", tyX6, rfl, by decide, in_X6, q549, Or.inl rfl, tyX6_ok, nmX6, rfl, rfl, rfl⟩
theorem zFX6_16_X6 : fMf RX6 16 6 2 (.array .int) := ⟨_, _, _, "ThriftNode$Air", tyX6, rfl, by decide, in_X6, q551, Or.inl rfl, tyX6_ok, nmX6, rfl, rfl, rfl⟩
theorem zFX7_7_X8 : fMf RX7 7 7 0 (.object "ThriftNode$Node") := ⟨_, _, _, "ThriftNode$Stage", tyX8, rfl, by decide, in_X8, q578, Or.inl rfl, tyX8_ok, nmX8, rfl, rfl, rfl⟩
theorem zFX7_7_X9 : fMf RX7 7 8 0 (.object "ThriftNode$Node") := ⟨_, _, _, "ThriftNode$Stage", tyX9, rfl, by decide, in_X9, q578, Or.inl rfl, tyX9_ok, nmX9, rfl, rfl, rfl⟩
theorem zFX7_7_X10 : fMf RX7 7 9 0 (.object "ThriftNode$Node") := ⟨_, _, _, "ThriftNode$Stage", tyX10, rfl, by decide, in_X10, q578, Or.inl rfl, tyX10_ok, nmX10, rfl, rfl, rfl⟩
theorem zFX7_7_X11 : fMf RX7 7 10 0 (.object "ThriftNode$Node") := ⟨_, _, _, "ThriftNode$Stage", tyX11, rfl, by decide, in_X11, q578, Or.inl rfl, tyX11_ok, nmX11, rfl, rfl, rfl⟩
set_option maxHeartbeats 4000000 in
set_option maxRecDepth 100000 in
theorem kn_init (dd : ClassId × ClassId × ClassId) (ws : va_W) (b : Nat) : Cw dd yX3_init cX3_init 1 none 1 2 328 [.ref b] (ws ++ [(b, .inr (3, [.null, .null]))]) (fun v w => v = none ∧ ∃ a1 a2, w = ws ++ [(b, .inr (3, [.ref a1, .ref a2])), (a1, .inl (dd.1, 164, .inl (fun _ => 0))), (a2, .inl (dd.1, 164, .inl (fun _ => 0)))]) := by
  refine Cw.introI (by decide) rfl (by simp [Value.category]) (Nat.le_of_ble_eq_true rfl) (fun K e o r hk hi => ?_)
  subst e
  have o : Y K cX3_init RX3 1 1 := o
  refine y_aload o dX3_init_0 rfl ?_
  refine y_objI o q93 q80 q81 (by decide) (Nat.le_of_ble_eq_true rfl) dX3_init_1 ?_
  refine y_aload o dX3_init_4 rfl ?_
  refine y_const o dX3_init_5 ?_
  refine y_newiA (N := 164) (l' := fun v8 => [(b, .inr (3, [.null, .null])), (v8, .inl ((kd K).1, 164, .inl (fun _ => 0)))]) o q109 (by decide) (by decide) (by decide) (Nat.le_trans (by decide) hk.1) (Nat.le_trans (by decide) hk.2) dX3_init_8 (fun _ => rfl) (fun v8 => ?_)
  refine y_putFA (fs := [.null, .null]) (l' := [(b, .inr (3, [.ref v8, .null])), (v8, .inl ((kd K).1, 164, .inl (fun _ => 0)))]) o hi zFX3_9_X3 0 rfl (Nat.le_of_ble_eq_true rfl) rfl rfl dX3_init_10 rfl ?_
  refine y_aload o dX3_init_13 rfl ?_
  refine y_const o dX3_init_14 ?_
  refine y_newiA (N := 164) (l' := fun v17 => [(b, .inr (3, [.ref v8, .null])), (v8, .inl ((kd K).1, 164, .inl (fun _ => 0))), (v17, .inl ((kd K).1, 164, .inl (fun _ => 0)))]) o q109 (by decide) (by decide) (by decide) (Nat.le_trans (by decide) hk.1) (Nat.le_trans (by decide) hk.2) dX3_init_17 (fun _ => rfl) (fun v17 => ?_)
  refine y_putFA (fs := [.ref v8, .null]) (l' := [(b, .inr (3, [.ref v8, .ref v17])), (v8, .inl ((kd K).1, 164, .inl (fun _ => 0))), (v17, .inl ((kd K).1, 164, .inl (fun _ => 0)))]) o hi zFX3_13_X3 0 rfl (Nat.le_of_ble_eq_true rfl) rfl rfl dX3_init_19 rfl ?_
  refine y_wide (k' := 2) (n' := 328) (by decide) (by decide) ?_
  exact y_vret o r dX3_init_22 ⟨rfl, v8, v17, rfl⟩
set_option maxHeartbeats 4000000 in
set_option maxRecDepth 100000 in
theorem pd_init (dd : ClassId × ClassId × ClassId) (ws : va_W) (b : Nat) (kp : Nat) : Cw dd yX4_init cX4_init 2 none 1 2 80 [.ref b, .ref kp] (ws ++ [(b, .inr (4, [.null, .null, .null, .int 0]))]) (fun v w => v = none ∧ ∃ a1 a2, w = ws ++ [(b, .inr (4, [.ref kp, .ref a1, .ref a2, .int 0])), (a1, .inl (dd.1, 40, .inl (fun _ => 0))), (a2, .inl (dd.1, 40, .inl (fun _ => 0)))]) := by
  refine Cw.introI (by decide) rfl (by simp [Value.category]) (Nat.le_of_ble_eq_true rfl) (fun K e o r hk hi => ?_)
  subst e
  have o : Y K cX4_init RX4 2 1 := o
  refine y_aload o dX4_init_0 rfl ?_
  refine y_objI o q115 q80 q81 (by decide) (Nat.le_of_ble_eq_true rfl) dX4_init_1 ?_
  refine y_aload o dX4_init_4 rfl ?_
  refine y_const o dX4_init_5 ?_
  refine y_newiA (N := 40) (l' := fun v7 => [(b, .inr (4, [.null, .null, .null, .int 0])), (v7, .inl ((kd K).1, 40, .inl (fun _ => 0)))]) o q109 (by decide) (by decide) (by decide) (Nat.le_trans (by decide) hk.1) (Nat.le_trans (by decide) hk.2) dX4_init_7 (fun _ => rfl) (fun v7 => ?_)
  refine y_putFA (fs := [.null, .null, .null, .int 0]) (l' := [(b, .inr (4, [.null, .ref v7, .null, .int 0])), (v7, .inl ((kd K).1, 40, .inl (fun _ => 0)))]) o hi zFX4_11_X4 0 rfl (Nat.le_of_ble_eq_true rfl) rfl rfl dX4_init_9 rfl ?_
  refine y_aload o dX4_init_12 rfl ?_
  refine y_const o dX4_init_13 ?_
  refine y_newiA (N := 40) (l' := fun v15 => [(b, .inr (4, [.null, .ref v7, .null, .int 0])), (v7, .inl ((kd K).1, 40, .inl (fun _ => 0))), (v15, .inl ((kd K).1, 40, .inl (fun _ => 0)))]) o q109 (by decide) (by decide) (by decide) (Nat.le_trans (by decide) hk.1) (Nat.le_trans (by decide) hk.2) dX4_init_15 (fun _ => rfl) (fun v15 => ?_)
  refine y_putFA (fs := [.null, .ref v7, .null, .int 0]) (l' := [(b, .inr (4, [.null, .ref v7, .ref v15, .int 0])), (v7, .inl ((kd K).1, 40, .inl (fun _ => 0))), (v15, .inl ((kd K).1, 40, .inl (fun _ => 0)))]) o hi zFX4_15_X4 0 rfl (Nat.le_of_ble_eq_true rfl) rfl rfl dX4_init_17 rfl ?_
  refine y_aload o dX4_init_20 rfl ?_
  refine y_aload o dX4_init_21 rfl ?_
  refine y_putFA (fs := [.null, .ref v7, .ref v15, .int 0]) (l' := [(b, .inr (4, [.ref kp, .ref v7, .ref v15, .int 0])), (v7, .inl ((kd K).1, 40, .inl (fun _ => 0))), (v15, .inl ((kd K).1, 40, .inl (fun _ => 0)))]) o hi zFX4_18_X4 0 rfl (Nat.le_of_ble_eq_true rfl) rfl rfl dX4_init_22 rfl ?_
  refine y_wide (k' := 2) (n' := 80) (by decide) (by decide) ?_
  exact y_vret o r dX4_init_25 ⟨rfl, v7, v15, rfl⟩
set_option maxHeartbeats 4000000 in
set_option maxRecDepth 100000 in
theorem ar_init (dd : ClassId × ClassId × ClassId) (ws : va_W) (b : Nat) : Cw dd yX6_init cX6_init 1 none 1 3 192 [.ref b] (ws ++ [(b, .inr (6, [.null, .null, .null, .int 0, .int 0]))]) (fun v w => v = none ∧ ∃ a1 a2 a3, w = ws ++ [(b, .inr (6, [.ref a1, .ref a2, .ref a3, .int 0, .int 0])), (a1, .inl (dd.1, 64, .inl (fun _ => 0))), (a2, .inl (dd.1, 64, .inl (fun _ => 0))), (a3, .inl (dd.1, 64, .inl (fun _ => 0)))]) := by
  refine Cw.introI (by decide) rfl (by simp [Value.category]) (Nat.le_of_ble_eq_true rfl) (fun K e o r hk hi => ?_)
  subst e
  have o : Y K cX6_init RX6 1 1 := o
  refine y_aload o dX6_init_0 rfl ?_
  refine y_objI o q546 q80 q81 (by decide) (Nat.le_of_ble_eq_true rfl) dX6_init_1 ?_
  refine y_aload o dX6_init_4 rfl ?_
  refine y_const o dX6_init_5 ?_
  refine y_newiA (N := 64) (l' := fun v7 => [(b, .inr (6, [.null, .null, .null, .int 0, .int 0])), (v7, .inl ((kd K).1, 64, .inl (fun _ => 0)))]) o q109 (by decide) (by decide) (by decide) (Nat.le_trans (by decide) hk.1) (Nat.le_trans (by decide) hk.2) dX6_init_7 (fun _ => rfl) (fun v7 => ?_)
  refine y_putFA (fs := [.null, .null, .null, .int 0, .int 0]) (l' := [(b, .inr (6, [.ref v7, .null, .null, .int 0, .int 0])), (v7, .inl ((kd K).1, 64, .inl (fun _ => 0)))]) o hi zFX6_9_X6 0 rfl (Nat.le_of_ble_eq_true rfl) rfl rfl dX6_init_9 rfl ?_
  refine y_aload o dX6_init_12 rfl ?_
  refine y_const o dX6_init_13 ?_
  refine y_newiA (N := 64) (l' := fun v15 => [(b, .inr (6, [.ref v7, .null, .null, .int 0, .int 0])), (v7, .inl ((kd K).1, 64, .inl (fun _ => 0))), (v15, .inl ((kd K).1, 64, .inl (fun _ => 0)))]) o q109 (by decide) (by decide) (by decide) (Nat.le_trans (by decide) hk.1) (Nat.le_trans (by decide) hk.2) dX6_init_15 (fun _ => rfl) (fun v15 => ?_)
  refine y_putFA (fs := [.ref v7, .null, .null, .int 0, .int 0]) (l' := [(b, .inr (6, [.ref v7, .ref v15, .null, .int 0, .int 0])), (v7, .inl ((kd K).1, 64, .inl (fun _ => 0))), (v15, .inl ((kd K).1, 64, .inl (fun _ => 0)))]) o hi zFX6_13_X6 0 rfl (Nat.le_of_ble_eq_true rfl) rfl rfl dX6_init_17 rfl ?_
  refine y_aload o dX6_init_20 rfl ?_
  refine y_const o dX6_init_21 ?_
  refine y_newiA (N := 64) (l' := fun v23 => [(b, .inr (6, [.ref v7, .ref v15, .null, .int 0, .int 0])), (v7, .inl ((kd K).1, 64, .inl (fun _ => 0))), (v15, .inl ((kd K).1, 64, .inl (fun _ => 0))), (v23, .inl ((kd K).1, 64, .inl (fun _ => 0)))]) o q109 (by decide) (by decide) (by decide) (Nat.le_trans (by decide) hk.1) (Nat.le_trans (by decide) hk.2) dX6_init_23 (fun _ => rfl) (fun v23 => ?_)
  refine y_putFA (fs := [.ref v7, .ref v15, .null, .int 0, .int 0]) (l' := [(b, .inr (6, [.ref v7, .ref v15, .ref v23, .int 0, .int 0])), (v7, .inl ((kd K).1, 64, .inl (fun _ => 0))), (v15, .inl ((kd K).1, 64, .inl (fun _ => 0))), (v23, .inl ((kd K).1, 64, .inl (fun _ => 0)))]) o hi zFX6_16_X6 0 rfl (Nat.le_of_ble_eq_true rfl) rfl rfl dX6_init_25 rfl ?_
  refine y_wide (k' := 3) (n' := 192) (by decide) (by decide) ?_
  exact y_vret o r dX6_init_28 ⟨rfl, v7, v15, v23, rfl⟩
set_option maxHeartbeats 4000000 in
set_option maxRecDepth 100000 in
theorem st_init7 (dd : ClassId × ClassId × ClassId) (ws : va_W) (b : Nat) (nd : Nat) : Cw dd yX7_init cX7_init 2 none 1 0 0 [.ref b, .ref nd] (ws ++ [(b, .inr (7, [.null, .int 0]))]) (fun v w => v = none ∧ w = ws ++ [(b, .inr (7, [.ref nd, .int 0]))]) := by
  refine Cw.introI (by decide) rfl (by simp [Value.category]) (Nat.le_of_ble_eq_true rfl) (fun K e o r hk hi => ?_)
  subst e
  have o : Y K cX7_init RX7 2 1 := o
  refine y_aload o dX7_init_0 rfl ?_
  refine y_objI o q575 q80 q81 (by decide) (Nat.le_of_ble_eq_true rfl) dX7_init_1 ?_
  refine y_aload o dX7_init_4 rfl ?_
  refine y_aload o dX7_init_5 rfl ?_
  refine y_putFA (fs := [.null, .int 0]) (l' := [(b, .inr (7, [.ref nd, .int 0]))]) o hi zFX7_7_X8 0 rfl (Nat.le_of_ble_eq_true rfl) rfl rfl dX7_init_6 rfl ?_
  refine y_wide (k' := 0) (n' := 0) (by decide) (by decide) ?_
  exact y_vret o r dX7_init_9 ⟨rfl, rfl⟩
set_option maxHeartbeats 4000000 in
set_option maxRecDepth 100000 in
theorem sg_init7 (dd : ClassId × ClassId × ClassId) (ws : va_W) (b : Nat) (nd : Nat) : Cw dd yX8_init cX8_init 2 none 2 0 0 [.ref b, .ref nd] (ws ++ [(b, .inr (7, [.null, .int 0]))]) (fun v w => v = none ∧ w = ws ++ [(b, .inr (7, [.ref nd, .int 0]))]) := by
  refine Cw.introI (by decide) rfl (by simp [Value.category]) (Nat.le_of_ble_eq_true rfl) (fun K e o r hk hi => ?_)
  subst e
  have o : Y K cX8_init RX8 2 2 := o
  refine y_aload o dX8_init_0 rfl ?_
  refine y_aload o dX8_init_1 rfl ?_
  refine y_callI (As := [.ref nd]) (rest := []) o kX8_3 (st_init7 _ ws b nd) (by decide) rfl rfl (Nat.le_of_ble_eq_true rfl) hk dX8_init_2 (fun v w e => ?_)
  obtain ⟨rfl, rfl⟩ := e
  refine y_wide (k' := 0) (n' := 0) (by decide) (by decide) ?_
  exact y_vret o r dX8_init_5 ⟨rfl, rfl⟩
set_option maxHeartbeats 4000000 in
set_option maxRecDepth 100000 in
theorem st_init8 (dd : ClassId × ClassId × ClassId) (ws : va_W) (b : Nat) (nd : Nat) : Cw dd yX7_init cX7_init 2 none 1 0 0 [.ref b, .ref nd] (ws ++ [(b, .inr (8, [.null, .int 0]))]) (fun v w => v = none ∧ w = ws ++ [(b, .inr (8, [.ref nd, .int 0]))]) := by
  refine Cw.introI (by decide) rfl (by simp [Value.category]) (Nat.le_of_ble_eq_true rfl) (fun K e o r hk hi => ?_)
  subst e
  have o : Y K cX7_init RX7 2 1 := o
  refine y_aload o dX7_init_0 rfl ?_
  refine y_objI o q575 q80 q81 (by decide) (Nat.le_of_ble_eq_true rfl) dX7_init_1 ?_
  refine y_aload o dX7_init_4 rfl ?_
  refine y_aload o dX7_init_5 rfl ?_
  refine y_putFA (fs := [.null, .int 0]) (l' := [(b, .inr (8, [.ref nd, .int 0]))]) o hi zFX7_7_X9 0 rfl (Nat.le_of_ble_eq_true rfl) rfl rfl dX7_init_6 rfl ?_
  refine y_wide (k' := 0) (n' := 0) (by decide) (by decide) ?_
  exact y_vret o r dX7_init_9 ⟨rfl, rfl⟩
set_option maxHeartbeats 4000000 in
set_option maxRecDepth 100000 in
theorem sg_init8 (dd : ClassId × ClassId × ClassId) (ws : va_W) (b : Nat) (nd : Nat) : Cw dd yX9_init cX9_init 2 none 2 0 0 [.ref b, .ref nd] (ws ++ [(b, .inr (8, [.null, .int 0]))]) (fun v w => v = none ∧ w = ws ++ [(b, .inr (8, [.ref nd, .int 0]))]) := by
  refine Cw.introI (by decide) rfl (by simp [Value.category]) (Nat.le_of_ble_eq_true rfl) (fun K e o r hk hi => ?_)
  subst e
  have o : Y K cX9_init RX9 2 2 := o
  refine y_aload o dX9_init_0 rfl ?_
  refine y_aload o dX9_init_1 rfl ?_
  refine y_callI (As := [.ref nd]) (rest := []) o kX9_3 (st_init8 _ ws b nd) (by decide) rfl rfl (Nat.le_of_ble_eq_true rfl) hk dX9_init_2 (fun v w e => ?_)
  obtain ⟨rfl, rfl⟩ := e
  refine y_wide (k' := 0) (n' := 0) (by decide) (by decide) ?_
  exact y_vret o r dX9_init_5 ⟨rfl, rfl⟩
set_option maxHeartbeats 4000000 in
set_option maxRecDepth 100000 in
theorem st_init9 (dd : ClassId × ClassId × ClassId) (ws : va_W) (b : Nat) (nd : Nat) : Cw dd yX7_init cX7_init 2 none 1 0 0 [.ref b, .ref nd] (ws ++ [(b, .inr (9, [.null, .int 0, .int 0]))]) (fun v w => v = none ∧ w = ws ++ [(b, .inr (9, [.ref nd, .int 0, .int 0]))]) := by
  refine Cw.introI (by decide) rfl (by simp [Value.category]) (Nat.le_of_ble_eq_true rfl) (fun K e o r hk hi => ?_)
  subst e
  have o : Y K cX7_init RX7 2 1 := o
  refine y_aload o dX7_init_0 rfl ?_
  refine y_objI o q575 q80 q81 (by decide) (Nat.le_of_ble_eq_true rfl) dX7_init_1 ?_
  refine y_aload o dX7_init_4 rfl ?_
  refine y_aload o dX7_init_5 rfl ?_
  refine y_putFA (fs := [.null, .int 0, .int 0]) (l' := [(b, .inr (9, [.ref nd, .int 0, .int 0]))]) o hi zFX7_7_X10 0 rfl (Nat.le_of_ble_eq_true rfl) rfl rfl dX7_init_6 rfl ?_
  refine y_wide (k' := 0) (n' := 0) (by decide) (by decide) ?_
  exact y_vret o r dX7_init_9 ⟨rfl, rfl⟩
set_option maxHeartbeats 4000000 in
set_option maxRecDepth 100000 in
theorem sg_init9 (dd : ClassId × ClassId × ClassId) (ws : va_W) (b : Nat) (nd : Nat) : Cw dd yX10_init cX10_init 2 none 2 0 0 [.ref b, .ref nd] (ws ++ [(b, .inr (9, [.null, .int 0, .int 0]))]) (fun v w => v = none ∧ w = ws ++ [(b, .inr (9, [.ref nd, .int 0, .int 0]))]) := by
  refine Cw.introI (by decide) rfl (by simp [Value.category]) (Nat.le_of_ble_eq_true rfl) (fun K e o r hk hi => ?_)
  subst e
  have o : Y K cX10_init RX10 2 2 := o
  refine y_aload o dX10_init_0 rfl ?_
  refine y_aload o dX10_init_1 rfl ?_
  refine y_callI (As := [.ref nd]) (rest := []) o kX10_3 (st_init9 _ ws b nd) (by decide) rfl rfl (Nat.le_of_ble_eq_true rfl) hk dX10_init_2 (fun v w e => ?_)
  obtain ⟨rfl, rfl⟩ := e
  refine y_wide (k' := 0) (n' := 0) (by decide) (by decide) ?_
  exact y_vret o r dX10_init_5 ⟨rfl, rfl⟩
set_option maxHeartbeats 4000000 in
set_option maxRecDepth 100000 in
theorem st_init10 (dd : ClassId × ClassId × ClassId) (ws : va_W) (b : Nat) (nd : Nat) : Cw dd yX7_init cX7_init 2 none 1 0 0 [.ref b, .ref nd] (ws ++ [(b, .inr (10, [.null, .int 0]))]) (fun v w => v = none ∧ w = ws ++ [(b, .inr (10, [.ref nd, .int 0]))]) := by
  refine Cw.introI (by decide) rfl (by simp [Value.category]) (Nat.le_of_ble_eq_true rfl) (fun K e o r hk hi => ?_)
  subst e
  have o : Y K cX7_init RX7 2 1 := o
  refine y_aload o dX7_init_0 rfl ?_
  refine y_objI o q575 q80 q81 (by decide) (Nat.le_of_ble_eq_true rfl) dX7_init_1 ?_
  refine y_aload o dX7_init_4 rfl ?_
  refine y_aload o dX7_init_5 rfl ?_
  refine y_putFA (fs := [.null, .int 0]) (l' := [(b, .inr (10, [.ref nd, .int 0]))]) o hi zFX7_7_X11 0 rfl (Nat.le_of_ble_eq_true rfl) rfl rfl dX7_init_6 rfl ?_
  refine y_wide (k' := 0) (n' := 0) (by decide) (by decide) ?_
  exact y_vret o r dX7_init_9 ⟨rfl, rfl⟩
set_option maxHeartbeats 4000000 in
set_option maxRecDepth 100000 in
theorem sg_init10 (dd : ClassId × ClassId × ClassId) (ws : va_W) (b : Nat) (nd : Nat) : Cw dd yX11_init cX11_init 2 none 2 0 0 [.ref b, .ref nd] (ws ++ [(b, .inr (10, [.null, .int 0]))]) (fun v w => v = none ∧ w = ws ++ [(b, .inr (10, [.ref nd, .int 0]))]) := by
  refine Cw.introI (by decide) rfl (by simp [Value.category]) (Nat.le_of_ble_eq_true rfl) (fun K e o r hk hi => ?_)
  subst e
  have o : Y K cX11_init RX11 2 2 := o
  refine y_aload o dX11_init_0 rfl ?_
  refine y_aload o dX11_init_1 rfl ?_
  refine y_callI (As := [.ref nd]) (rest := []) o kX11_3 (st_init10 _ ws b nd) (by decide) rfl rfl (Nat.le_of_ble_eq_true rfl) hk dX11_init_2 (fun v w e => ?_)
  obtain ⟨rfl, rfl⟩ := e
  refine y_wide (k' := 0) (n' := 0) (by decide) (by decide) ?_
  exact y_vret o r dX11_init_5 ⟨rfl, rfl⟩
