/-! the model's constructor; both sides at their start -/
set_option maxRecDepth 100000
/-- all zero but 'given' (-1) -/
def z_S0 : XS := (fun i => if i = 4 then -1 else 0, fun _ _ => 0)
def f_neg (S : XS) : Nat → Nat → XS
  | 0, _ => S
  | n + 1, k => f_neg (xa S 11 k (-1)) n (k + 1)
def m_S0 : XS := f_neg z_S0 64 0
theorem cW_eq (dA : ClassId) (h : Nat → Nat) (S : XS) : g_W dA cG h S = [(h 0, .inr (1, [.ref (h 1)])), (h 1, .inr (2, [.ref (h 2), .ref (h 3), .ref (h 4), .ref (h 5), .ref (h 14), .ref (h 15), .ref (h 16), .ref (h 17), .ref (h 6), .ref (h 7), .ref (h 8), .ref (h 9), va_rf (g_dv h (S.1 17)), .int (S.1 0), .int (S.1 1), .int (S.1 2), .int (S.1 3), .int (S.1 4), .int (S.1 5), .int (S.1 6), .int (S.1 15)])), (h 2, .inr (3, [.ref (h 10), .ref (h 11)])), (h 3, .inr (4, [.ref (h 2), .ref (h 12), .ref (h 13), .int (S.1 12)])), (h 4, .inr (5, [.ref (h 21), .int (S.1 14)])), (h 5, .inr (6, [.ref (h 18), .ref (h 19), .ref (h 20), .int (S.1 13), .int (S.1 16)])), (h 6, .inr (7, [.ref (h 1), .int (S.1 8)])), (h 7, .inr (8, [.ref (h 1), .int (S.1 7)])), (h 8, .inr (9, [.ref (h 1), .int (S.1 9), .int (S.1 10)])), (h 9, .inr (10, [.ref (h 1), .int (S.1 11)])), (h 10, .inl (dA, 164, .inl (S.2 0))), (h 11, .inl (dA, 164, .inl (S.2 1))), (h 12, .inl (dA, 40, .inl (S.2 2))), (h 13, .inl (dA, 40, .inl (S.2 3))), (h 14, .inl (dA, 8, .inl (S.2 4))), (h 15, .inl (dA, 4, .inl (S.2 5))), (h 16, .inl (dA, 16, .inl (S.2 6))), (h 17, .inl (dA, 16, .inl (S.2 7))), (h 18, .inl (dA, 64, .inl (S.2 8))), (h 19, .inl (dA, 64, .inl (S.2 9))), (h 20, .inl (dA, 64, .inl (S.2 10)))] := by
  unfold g_W cG
  simp only [List.mapIdx_cons, List.mapIdx_nil, Nat.zero_add, Nat.reduceAdd, g_cell, List.map_cons, List.map_nil, g_fv]
theorem mW_eq (dA : ClassId) (h : Nat → Nat) (S : XS) : g_W dA mG h S = [(h 0, .inr (0, [.int (S.1 19), .ref (h 1), .ref (h 2), .int (S.1 14), .ref (h 3), .ref (h 4), .ref (h 5), .ref (h 6), .ref (h 7), .int (S.1 0), .int (S.1 1), .int (S.1 18), .int (S.1 4), .int (S.1 5), .int (S.1 6), .int (S.1 3), .int (S.1 8), .int (S.1 7), .ref (h 8), .int (S.1 9), .int (S.1 2), .int (S.1 10), .int (S.1 12), .ref (h 9), .ref (h 10), .int (S.1 11), .int (S.1 13), .ref (h 11), .ref (h 12), .ref (h 13), .ref (h 14), .int (S.1 15)])), (h 1, .inl (dA, 512, .inl (S.2 12))), (h 2, .inl (dA, 16, .inl (S.2 13))), (h 3, .inl (dA, 164, .inl (S.2 0))), (h 4, .inl (dA, 164, .inl (S.2 1))), (h 5, .inl (dA, 4, .inl (S.2 5))), (h 6, .inl (dA, 16, .inl (S.2 6))), (h 7, .inl (dA, 16, .inl (S.2 7))), (h 8, .inl (dA, 8, .inl (S.2 4))), (h 9, .inl (dA, 40, .inl (S.2 2))), (h 10, .inl (dA, 40, .inl (S.2 3))), (h 11, .inl (dA, 64, .inl (S.2 8))), (h 12, .inl (dA, 64, .inl (S.2 9))), (h 13, .inl (dA, 64, .inl (S.2 11))), (h 14, .inl (dA, 64, .inl (S.2 10)))] := by
  unfold g_W mG
  simp only [List.mapIdx_cons, List.mapIdx_nil, Nat.zero_add, Nat.reduceAdd, g_cell, List.map_cons, List.map_nil, g_fv]
theorem z_st (h : Nat → Nat) : va_rf (g_dv h (z_S0.1 17)) = .null := by
  have e : g_dv h (z_S0.1 17) = none := if_pos rfl
  rw [e]
  rfl
theorem zFX12_7_X12 : fMf RX12 7 0 1 (.array .int) := ⟨_, _, _, "ThriftNodeModel", tyX12, rfl, by decide, in_X12, q1098, Or.inl rfl, tyX12_ok, nmX12, rfl, rfl, rfl⟩
theorem zFX12_13_X12 : fMf RX12 13 0 2 (.array .int) := ⟨_, _, _, "ThriftNodeModel", tyX12, rfl, by decide, in_X12, q1099, Or.inl rfl, tyX12_ok, nmX12, rfl, rfl, rfl⟩
theorem zFX12_16_X12 : fMf RX12 16 0 4 (.array .int) := ⟨_, _, _, "ThriftNodeModel", tyX12, rfl, by decide, in_X12, q1101, Or.inl rfl, tyX12_ok, nmX12, rfl, rfl, rfl⟩
theorem zFX12_19_X12 : fMf RX12 19 0 5 (.array .int) := ⟨_, _, _, "ThriftNodeModel", tyX12, rfl, by decide, in_X12, q1102, Or.inl rfl, tyX12_ok, nmX12, rfl, rfl, rfl⟩
theorem zFX12_22_X12 : fMf RX12 22 0 6 (.array .int) := ⟨_, _, _, "ThriftNodeModel", tyX12, rfl, by decide, in_X12, q1103, Or.inl rfl, tyX12_ok, nmX12, rfl, rfl, rfl⟩
theorem zFX12_25_X12 : fMf RX12 25 0 7 (.array .int) := ⟨_, _, _, "ThriftNodeModel", tyX12, rfl, by decide, in_X12, q1104, Or.inl rfl, tyX12_ok, nmX12, rfl, rfl, rfl⟩
theorem zFX12_28_X12 : fMf RX12 28 0 8 (.array .int) := ⟨_, _, _, "ThriftNodeModel", tyX12, rfl, by decide, in_X12, q1105, Or.inl rfl, tyX12_ok, nmX12, rfl, rfl, rfl⟩
theorem zPX12_31_X12 : fMp RX12 31 0 12 .int := ⟨_, _, _, "ThriftNodeModel", tyX12, rfl, by decide, in_X12, Or.inl q1109, Or.inl rfl, tyX12_ok, nmX12, rfl, rfl⟩
theorem zFX12_35_X12 : fMf RX12 35 0 18 (.array .int) := ⟨_, _, _, "ThriftNodeModel", tyX12, rfl, by decide, in_X12, q1115, Or.inl rfl, tyX12_ok, nmX12, rfl, rfl, rfl⟩
theorem zFX12_38_X12 : fMf RX12 38 0 23 (.array .int) := ⟨_, _, _, "ThriftNodeModel", tyX12, rfl, by decide, in_X12, q1120, Or.inl rfl, tyX12_ok, nmX12, rfl, rfl, rfl⟩
theorem zFX12_41_X12 : fMf RX12 41 0 24 (.array .int) := ⟨_, _, _, "ThriftNodeModel", tyX12, rfl, by decide, in_X12, q1121, Or.inl rfl, tyX12_ok, nmX12, rfl, rfl, rfl⟩
theorem zFX12_44_X12 : fMf RX12 44 0 27 (.array .int) := ⟨_, _, _, "ThriftNodeModel", tyX12, rfl, by decide, in_X12, q1124, Or.inl rfl, tyX12_ok, nmX12, rfl, rfl, rfl⟩
theorem zFX12_47_X12 : fMf RX12 47 0 28 (.array .int) := ⟨_, _, _, "ThriftNodeModel", tyX12, rfl, by decide, in_X12, q1125, Or.inl rfl, tyX12_ok, nmX12, rfl, rfl, rfl⟩
theorem zFX12_50_X12 : fMf RX12 50 0 29 (.array .int) := ⟨_, _, _, "ThriftNodeModel", tyX12, rfl, by decide, in_X12, q1126, Or.inl rfl, tyX12_ok, nmX12, rfl, rfl, rfl⟩
theorem zFX12_53_X12 : fMf RX12 53 0 30 (.array .int) := ⟨_, _, _, "ThriftNodeModel", tyX12, rfl, by decide, in_X12, q1127, Or.inl rfl, tyX12_ok, nmX12, rfl, rfl, rfl⟩
