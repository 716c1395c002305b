/-! the component -/
set_option maxRecDepth 100000
def cG : List GC := [.inl (1, [.inr (.inl 1)]), .inl (2, [.inr (.inl 2), .inr (.inl 3), .inr (.inl 4), .inr (.inl 5), .inr (.inl 14), .inr (.inl 15), .inr (.inl 16), .inr (.inl 17), .inr (.inl 6), .inr (.inl 7), .inr (.inl 8), .inr (.inl 9), .inr (.inr 17), .inl 0, .inl 1, .inl 2, .inl 3, .inl 4, .inl 5, .inl 6, .inl 15]), .inl (3, [.inr (.inl 10), .inr (.inl 11)]), .inl (4, [.inr (.inl 2), .inr (.inl 12), .inr (.inl 13), .inl 12]), .inl (5, [.inr (.inl 21), .inl 14]), .inl (6, [.inr (.inl 18), .inr (.inl 19), .inr (.inl 20), .inl 13, .inl 16]), .inl (7, [.inr (.inl 1), .inl 8]), .inl (8, [.inr (.inl 1), .inl 7]), .inl (9, [.inr (.inl 1), .inl 9, .inl 10]), .inl (10, [.inr (.inl 1), .inl 11]), .inr (0, 164), .inr (1, 164), .inr (2, 40), .inr (3, 40), .inr (4, 8), .inr (5, 4), .inr (6, 16), .inr (7, 16), .inr (8, 64), .inr (9, 64), .inr (10, 64)]
theorem y_s17 (S : XS) (v : Int32) : (xs S 5 v).1 17 = S.1 17 := rfl
theorem y_s17b (S : XS) (v : Int32) : (xs S 5 v).2 = S.2 := rfl
def comOkC (S : XS) : Prop := ∃ p k, p ≤ 40 ∧ S.1 12 = nI p ∧ S.1 11 = nI k ∧ k ≤ 3 * p + 1 ∧ (∀ e, e < p → vp_in (S.2 2 e) 164) ∧ vp_in (S.1 15) 16
theorem cc_2n {p : Nat} : 2 * (nI p : Int32) = nI (2 * p) := pk_mul 2 p
theorem cc_3n {p : Nat} : 3 * (nI p : Int32) = nI (3 * p) := pk_mul 3 p
theorem cc_half {T : XS} (hc : comOkC T) (c : ¬ 2 * T.1 12 ≤ T.1 11) : vp_in (T.1 11 / 2) 40 := by
  obtain ⟨p, k, h1, h2, h3, h4, -⟩ := hc
  rw [h2, h3, cc_2n, nI_leI (by omega) (by omega)] at c
  rw [h3, show (2 : Int32) = nI 2 from rfl, pk_div (by omega) (by decide) (by decide)]
  exact vp_in_nI (by omega) (by decide)
theorem cc_list {T : XS} (hc : comOkC T) (c : ¬ 2 * T.1 12 ≤ T.1 11) : vp_in (84 + T.1 11) 164 := by
  obtain ⟨p, k, h1, h2, h3, h4, -⟩ := hc
  rw [h2, h3, cc_2n, nI_leI (by omega) (by omega)] at c
  rw [h3, show (84 : Int32) = nI 84 from rfl, nI_add]
  exact vp_in_nI (by omega) (by decide)
theorem cc_e0 {T : XS} (hc : comOkC T) (c84 : ¬ T.1 11 = 2 * T.1 12) (c109 : ¬ 3 * T.1 12 < T.1 11) (c20 : 2 * T.1 12 ≤ T.1 11) : ∃ e, e < 40 ∧ T.1 11 - 2 * T.1 12 - 1 = nI e ∧ vp_in (T.2 2 e) 164 := by
  obtain ⟨p, k, h1, h2, h3, h4, h5, -⟩ := hc
  rw [h2, h3, cc_2n, nI_leI (by omega) (by omega)] at c20
  rw [h2, h3, cc_2n, nI_eq (by omega) (by omega)] at c84
  rw [h2, h3, cc_3n, nI_ltI (by omega) (by omega)] at c109
  refine ⟨k - 2 * p - 1, by omega, ?_, h5 _ (by omega)⟩
  rw [h2, h3, cc_2n, pk_sub (by omega), show (1 : Int32) = nI 1 from rfl, pk_sub (by omega)]
theorem cc_e {T : XS} (hc : comOkC T) (c84 : ¬ T.1 11 = 2 * T.1 12) (c109 : ¬ 3 * T.1 12 < T.1 11) (c20 : 2 * T.1 12 ≤ T.1 11) : vp_in (T.1 11 - 2 * T.1 12 - 1) 40 := by
  obtain ⟨e, h1, h2, -⟩ := cc_e0 hc c84 c109 c20
  rw [h2]
  exact vp_in_nI h1 (by decide)
theorem cc_w {T : XS} (hc : comOkC T) (c84 : ¬ T.1 11 = 2 * T.1 12) (c109 : ¬ 3 * T.1 12 < T.1 11) (c20 : 2 * T.1 12 ≤ T.1 11) : vp_in (T.2 2 (T.1 11 - 2 * T.1 12 - 1).toNatClampNeg) 164 := by
  obtain ⟨e, h1, h2, h3⟩ := cc_e0 hc c84 c109 c20
  rw [h2, nI_clamp (by omega)]
  exact h3
theorem cc_t {T : XS} (hc : comOkC T) (c109 : 3 * T.1 12 < T.1 11) : vp_in (T.1 15) 16 := by
  obtain ⟨p, k, h1, h2, h3, h4, h5, h6⟩ := hc
  exact h6
section YX2
variable {K : YK} {cc : ByteArray} {own : String} {nL d : Nat} {lv : List Value} {pc pc' : Nat} {G : List GC} {h : Nat → Nat} {S S' : XS} {ex : va_W} {k n : Nat} {st : List Value} {y : MethodName} {bytes : ByteArray} {nL' d' idx na : Nat} {ret : Option FieldType} {As rest : List Value} {C : String}
theorem x_aret {v x : Nat} {rt : FieldType} (o : Y K cc own nL d) (r : YX K (some rt) G h ex (some (.ref x)) S') (hrt : (∃ n, rt = .object n) ∨ ∃ t, rt = .array t) (hh : dk cc pc .areturn 1 pc') (e1 : v = x) (e2 : S = S') : Vw K nL (g_W (kd K).1 G h S ++ ex) 0 0 lv pc [.ref v] := y_aret o r hrt hh (Or.inr ⟨v, rfl⟩) ⟨by rw [e1], by rw [e2]⟩
theorem y_callVr (o : Y K cc own nL d) (kf : kV own idx C y bytes nL' ret na) {q : Nat} (r : rG G q C) (hk : k ≤ (kR K).cells ∧ n ≤ (kR K).slots) {x : Nat} (M : Cx (kd K) y bytes nL' ret d' G (.ref (h q) :: As) h ex S (some (.ref x)) S') (hd : d' + 1 ≤ d) (hna : As.length = na) (hst : st = As.reverse ++ .ref (h q) :: rest) (hW : (rest.map fun v => v.category).sum ≤ 8) (hh : dk cc pc (.invokevirtual idx) 3 pc')
    (kk : Vw K nL (g_W (kd K).1 G h S' ++ ex) k n lv pc' (.ref x :: rest)) : Vw K nL (g_W (kd K).1 G h S ++ ex) k n lv pc st :=
  y_callV o kf M r.rc hd hna hst hW hk hh (fun v w e => by obtain ⟨rfl, rfl⟩ := e; exact kk)
end YX2
theorem tgX3_9 : fG cG RX3 9 2 0 (.inr (.inl 10)) := ⟨_, _, _, _, "ThriftNode$Kept", rfl, rfl, rfl, by decide, in_X3, Or.inl q94, Or.inl rfl⟩
theorem ta_words : aG cG 10 0 164 := ⟨rfl, by decide +kernel⟩
theorem tgX3_13 : fG cG RX3 13 2 1 (.inr (.inl 11)) := ⟨_, _, _, _, "ThriftNode$Kept", rfl, rfl, rfl, by decide, in_X3, Or.inl q102, Or.inl rfl⟩
theorem ta_wear : aG cG 11 1 164 := ⟨rfl, by decide +kernel⟩
theorem tgX4_22 : fG cG RX4 22 3 3 (.inl 12) := ⟨_, _, _, _, "ThriftNode$Pending", rfl, rfl, rfl, by decide, in_X4, Or.inl q121, Or.inl rfl⟩
theorem tgX4_11 : fG cG RX4 11 3 1 (.inr (.inl 12)) := ⟨_, _, _, _, "ThriftNode$Pending", rfl, rfl, rfl, by decide, in_X4, Or.inl q117, Or.inl rfl⟩
theorem ta_where : aG cG 12 2 40 := ⟨rfl, by decide +kernel⟩
theorem tr_X4 : rG cG 3 RX4 := ⟨_, _, _, rfl, rfl⟩
theorem tgX4_15 : fG cG RX4 15 3 2 (.inr (.inl 13)) := ⟨_, _, _, _, "ThriftNode$Pending", rfl, rfl, rfl, by decide, in_X4, Or.inl q119, Or.inl rfl⟩
theorem ta_what : aG cG 13 3 40 := ⟨rfl, by decide +kernel⟩
theorem tgX4_18 : fG cG RX4 18 3 0 (.inr (.inl 2)) := ⟨_, _, _, _, "ThriftNode$Pending", rfl, rfl, rfl, by decide, in_X4, Or.inl q116, Or.inl rfl⟩
theorem tgX4_30 : fG cG RX4 30 2 0 (.inr (.inl 10)) := ⟨_, _, _, _, "ThriftNode$Kept", rfl, rfl, rfl, by decide, in_X3, Or.inr ⟨_, q99⟩, Or.inl rfl⟩
theorem tpX4_22 : fP cG RX4 22 3 3 12 (.inl 12) .int := ⟨by decide +kernel, Or.inl rfl, _, _, _, _, "ThriftNode$Pending", tyX4, rfl, rfl, rfl, by decide, in_X4, Or.inl q121, Or.inl rfl, tyX4_ok, nmX4, rfl, rfl⟩
theorem tgX6_9 : fG cG RX6 9 5 0 (.inr (.inl 18)) := ⟨_, _, _, _, "ThriftNode$Air", rfl, rfl, rfl, by decide, in_X6, Or.inl q547, Or.inl rfl⟩
theorem tgX6_19 : fG cG RX6 19 5 3 (.inl 13) := ⟨_, _, _, _, "ThriftNode$Air", rfl, rfl, rfl, by decide, in_X6, Or.inl q553, Or.inl rfl⟩
theorem ta_numbers : aG cG 18 8 64 := ⟨rfl, by decide +kernel⟩
theorem tgX6_13 : fG cG RX6 13 5 1 (.inr (.inl 19)) := ⟨_, _, _, _, "ThriftNode$Air", rfl, rfl, rfl, by decide, in_X6, Or.inl q549, Or.inl rfl⟩
theorem ta_payloads : aG cG 19 9 64 := ⟨rfl, by decide +kernel⟩
theorem tpX6_19 : fP cG RX6 19 5 3 13 (.inl 13) .int := ⟨by decide +kernel, Or.inl rfl, _, _, _, _, "ThriftNode$Air", tyX6, rfl, rfl, rfl, by decide, in_X6, Or.inl q553, Or.inl rfl, tyX6_ok, nmX6, rfl, rfl⟩
theorem tgX6_23 : fG cG RX6 23 5 4 (.inl 16) := ⟨_, _, _, _, "ThriftNode$Air", rfl, rfl, rfl, by decide, in_X6, Or.inl q555, Or.inl rfl⟩
theorem tgX6_16 : fG cG RX6 16 5 2 (.inr (.inl 20)) := ⟨_, _, _, _, "ThriftNode$Air", rfl, rfl, rfl, by decide, in_X6, Or.inl q551, Or.inl rfl⟩
theorem ta_akept : aG cG 20 10 64 := ⟨rfl, by decide +kernel⟩
theorem tpX6_23 : fP cG RX6 23 5 4 16 (.inl 16) .int := ⟨by decide +kernel, Or.inl rfl, _, _, _, _, "ThriftNode$Air", tyX6, rfl, rfl, rfl, by decide, in_X6, Or.inl q555, Or.inl rfl, tyX6_ok, nmX6, rfl, rfl⟩
theorem tgX8_9 : fG cG RX8 9 6 0 (.inr (.inl 1)) := ⟨_, _, _, _, "ThriftNode$Replay", rfl, rfl, rfl, by decide, in_X8, Or.inl q585, Or.inr q586⟩
theorem tgX8_15 : fG cG RX8 15 1 0 (.inr (.inl 2)) := ⟨_, _, _, _, "ThriftNode$Node", rfl, rfl, rfl, by decide, in_X2, Or.inr ⟨_, q633⟩, Or.inl rfl⟩
theorem tgX8_21 : fG cG RX8 21 6 1 (.inl 8) := ⟨_, _, _, _, "ThriftNode$Replay", rfl, rfl, rfl, by decide, in_X8, Or.inl q576, Or.inl rfl⟩
theorem tgX8_25 : fG cG RX8 25 2 0 (.inr (.inl 10)) := ⟨_, _, _, _, "ThriftNode$Kept", rfl, rfl, rfl, by decide, in_X3, Or.inr ⟨_, q97⟩, Or.inl rfl⟩
theorem tr_X3 : rG cG 2 RX3 := ⟨_, _, _, rfl, rfl⟩
theorem tgX8_35 : fG cG RX8 35 1 9 (.inr (.inl 7)) := ⟨_, _, _, _, "ThriftNode$Node", rfl, rfl, rfl, by decide, in_X2, Or.inr ⟨_, q658⟩, Or.inl rfl⟩
theorem tpX8_39 : fP cG RX8 39 1 12 17 (.inr (.inr 17)) (.object "ThriftNode$Stage") := ⟨by decide +kernel, Or.inr rfl, _, _, _, _, "ThriftNode$Node", tyX2, rfl, rfl, rfl, by decide, in_X2, Or.inr ⟨_, q666⟩, Or.inl rfl, tyX2_ok, nmX2, rfl, rfl⟩
theorem tpX8_21 : fP cG RX8 21 6 1 8 (.inl 8) .int := ⟨by decide +kernel, Or.inl rfl, _, _, _, _, "ThriftNode$Replay", tyX8, rfl, rfl, rfl, by decide, in_X8, Or.inl q576, Or.inl rfl, tyX8_ok, nmX8, rfl, rfl⟩
theorem tgX9_9 : fG cG RX9 9 7 0 (.inr (.inl 1)) := ⟨_, _, _, _, "ThriftNode$Airing", rfl, rfl, rfl, by decide, in_X9, Or.inl q579, Or.inr q580⟩
theorem tgX9_15 : fG cG RX9 15 1 0 (.inr (.inl 2)) := ⟨_, _, _, _, "ThriftNode$Node", rfl, rfl, rfl, by decide, in_X2, Or.inr ⟨_, q631⟩, Or.inl rfl⟩
theorem tgX9_21 : fG cG RX9 21 2 0 (.inr (.inl 10)) := ⟨_, _, _, _, "ThriftNode$Kept", rfl, rfl, rfl, by decide, in_X3, Or.inr ⟨_, q95⟩, Or.inl rfl⟩
theorem tgX9_27 : fG cG RX9 27 7 1 (.inl 7) := ⟨_, _, _, _, "ThriftNode$Airing", rfl, rfl, rfl, by decide, in_X9, Or.inl q598, Or.inl rfl⟩
theorem tpX9_27 : fP cG RX9 27 7 1 7 (.inl 7) .boolean := ⟨by decide +kernel, Or.inl rfl, _, _, _, _, "ThriftNode$Airing", tyX9, rfl, rfl, rfl, by decide, in_X9, Or.inl q598, Or.inl rfl, tyX9_ok, nmX9, rfl, rfl⟩
theorem tgX9_35 : fG cG RX9 35 1 3 (.inr (.inl 5)) := ⟨_, _, _, _, "ThriftNode$Node", rfl, rfl, rfl, by decide, in_X2, Or.inr ⟨_, q644⟩, Or.inl rfl⟩
theorem tr_X6 : rG cG 5 RX6 := ⟨_, _, _, rfl, rfl⟩
theorem tpX10_9 : fP cG RX10 9 8 1 9 (.inl 9) .int := ⟨by decide +kernel, Or.inl rfl, _, _, _, _, "ThriftNode$Run", tyX10, rfl, rfl, rfl, by decide, in_X10, Or.inl q610, Or.inl rfl, tyX10_ok, nmX10, rfl, rfl⟩
theorem tpX10_15 : fP cG RX10 15 8 2 10 (.inl 10) .int := ⟨by decide +kernel, Or.inl rfl, _, _, _, _, "ThriftNode$Run", tyX10, rfl, rfl, rfl, by decide, in_X10, Or.inl q612, Or.inl rfl, tyX10_ok, nmX10, rfl, rfl⟩
theorem tgX11_9 : fG cG RX11 9 9 0 (.inr (.inl 1)) := ⟨_, _, _, _, "ThriftNode$Commit", rfl, rfl, rfl, by decide, in_X11, Or.inl q581, Or.inr q582⟩
theorem tgX11_29 : fG cG RX11 29 1 0 (.inr (.inl 2)) := ⟨_, _, _, _, "ThriftNode$Node", rfl, rfl, rfl, by decide, in_X2, Or.inr ⟨_, q632⟩, Or.inl rfl⟩
theorem tgX11_33 : fG cG RX11 33 2 0 (.inr (.inl 10)) := ⟨_, _, _, _, "ThriftNode$Kept", rfl, rfl, rfl, by decide, in_X3, Or.inr ⟨_, q96⟩, Or.inl rfl⟩
theorem tgX10_18 : fG cG RX10 18 8 0 (.inr (.inl 1)) := ⟨_, _, _, _, "ThriftNode$Run", rfl, rfl, rfl, by decide, in_X10, Or.inl q583, Or.inr q584⟩
theorem tgX10_79 : fG cG RX10 79 1 1 (.inr (.inl 3)) := ⟨_, _, _, _, "ThriftNode$Node", rfl, rfl, rfl, by decide, in_X2, Or.inr ⟨_, q638⟩, Or.inl rfl⟩
theorem tgX10_54 : fG cG RX10 54 1 4 (.inr (.inl 14)) := ⟨_, _, _, _, "ThriftNode$Node", rfl, rfl, rfl, by decide, in_X2, Or.inr ⟨_, q647⟩, Or.inl rfl⟩
theorem ta_registers : aG cG 14 4 8 := ⟨rfl, by decide +kernel⟩
theorem tgX10_28 : fG cG RX10 28 1 0 (.inr (.inl 2)) := ⟨_, _, _, _, "ThriftNode$Node", rfl, rfl, rfl, by decide, in_X2, Or.inr ⟨_, q634⟩, Or.inl rfl⟩
theorem tgX10_32 : fG cG RX10 32 2 0 (.inr (.inl 10)) := ⟨_, _, _, _, "ThriftNode$Kept", rfl, rfl, rfl, by decide, in_X3, Or.inr ⟨_, q98⟩, Or.inl rfl⟩
theorem tgX2_41 : fG cG RX2 41 1 4 (.inr (.inl 14)) := ⟨_, _, _, _, "ThriftNode$Node", rfl, rfl, rfl, by decide, in_X2, Or.inl q646, Or.inl rfl⟩
theorem tpX2_99 : fP cG RX2 99 1 15 2 (.inl 2) .int := ⟨by decide +kernel, Or.inl rfl, _, _, _, _, "ThriftNode$Node", tyX2, rfl, rfl, rfl, by decide, in_X2, Or.inl q673, Or.inl rfl, tyX2_ok, nmX2, rfl, rfl⟩
theorem tgX2_23 : fG cG RX2 23 1 1 (.inr (.inl 3)) := ⟨_, _, _, _, "ThriftNode$Node", rfl, rfl, rfl, by decide, in_X2, Or.inl q636, Or.inl rfl⟩
theorem tpX2_102 : fP cG RX2 102 3 3 12 (.inl 12) .int := ⟨by decide +kernel, Or.inl rfl, _, _, _, _, "ThriftNode$Pending", tyX4, rfl, rfl, rfl, by decide, in_X4, Or.inr ⟨_, q122⟩, Or.inl rfl, tyX4_ok, nmX4, rfl, rfl⟩
theorem tgX2_88 : fG cG RX2 88 1 12 (.inr (.inr 17)) := ⟨_, _, _, _, "ThriftNode$Node", rfl, rfl, rfl, by decide, in_X2, Or.inl q664, Or.inl rfl⟩
theorem tgX2_73 : fG cG RX2 73 1 10 (.inr (.inl 8)) := ⟨_, _, _, _, "ThriftNode$Node", rfl, rfl, rfl, by decide, in_X2, Or.inl q659, Or.inl rfl⟩
theorem tgX2_80 : fG cG RX2 80 1 11 (.inr (.inl 9)) := ⟨_, _, _, _, "ThriftNode$Node", rfl, rfl, rfl, by decide, in_X2, Or.inl q661, Or.inl rfl⟩
theorem tgX2_66 : fG cG RX2 66 1 9 (.inr (.inl 7)) := ⟨_, _, _, _, "ThriftNode$Node", rfl, rfl, rfl, by decide, in_X2, Or.inl q657, Or.inl rfl⟩
theorem tpX2_88 : fP cG RX2 88 1 12 17 (.inr (.inr 17)) (.object "ThriftNode$Stage") := ⟨by decide +kernel, Or.inr rfl, _, _, _, _, "ThriftNode$Node", tyX2, rfl, rfl, rfl, by decide, in_X2, Or.inl q664, Or.inl rfl, tyX2_ok, nmX2, rfl, rfl⟩
theorem tpX2_92 : fP cG RX2 92 7 1 7 (.inl 7) .boolean := ⟨by decide +kernel, Or.inl rfl, _, _, _, _, "ThriftNode$Airing", tyX9, rfl, rfl, rfl, by decide, in_X9, Or.inr ⟨_, q599⟩, Or.inl rfl, tyX9_ok, nmX9, rfl, rfl⟩
theorem tr_X2 : rG cG 1 RX2 := ⟨_, _, _, rfl, rfl⟩
theorem tgX2_48 : fG cG RX2 48 1 6 (.inr (.inl 16)) := ⟨_, _, _, _, "ThriftNode$Node", rfl, rfl, rfl, by decide, in_X2, Or.inl q652, Or.inl rfl⟩
theorem tgX2_105 : fG cG RX2 105 1 20 (.inl 15) := ⟨_, _, _, _, "ThriftNode$Node", rfl, rfl, rfl, by decide, in_X2, Or.inl q683, Or.inl rfl⟩
theorem ta_estimates : aG cG 16 6 16 := ⟨rfl, by decide +kernel⟩
theorem tgX2_99 : fG cG RX2 99 1 15 (.inl 2) := ⟨_, _, _, _, "ThriftNode$Node", rfl, rfl, rfl, by decide, in_X2, Or.inl q673, Or.inl rfl⟩
theorem tgX2_51 : fG cG RX2 51 1 7 (.inr (.inl 17)) := ⟨_, _, _, _, "ThriftNode$Node", rfl, rfl, rfl, by decide, in_X2, Or.inl q654, Or.inl rfl⟩
theorem ta_failures : aG cG 17 7 16 := ⟨rfl, by decide +kernel⟩
theorem tgX2_12 : fG cG RX2 12 1 0 (.inr (.inl 2)) := ⟨_, _, _, _, "ThriftNode$Node", rfl, rfl, rfl, by decide, in_X2, Or.inl q630, Or.inl rfl⟩
theorem tgX2_114 : fG cG RX2 114 2 0 (.inr (.inl 10)) := ⟨_, _, _, _, "ThriftNode$Kept", rfl, rfl, rfl, by decide, in_X3, Or.inr ⟨_, q100⟩, Or.inl rfl⟩
theorem tpX2_105 : fP cG RX2 105 1 20 15 (.inl 15) .int := ⟨by decide +kernel, Or.inl rfl, _, _, _, _, "ThriftNode$Node", tyX2, rfl, rfl, rfl, by decide, in_X2, Or.inl q683, Or.inl rfl, tyX2_ok, nmX2, rfl, rfl⟩
theorem tr_X10 : rG cG 8 RX10 := ⟨_, _, _, rfl, rfl⟩
theorem tgX10_119 : fG cG RX10 119 1 19 (.inl 6) := ⟨_, _, _, _, "ThriftNode$Node", rfl, rfl, rfl, by decide, in_X2, Or.inr ⟨_, q681⟩, Or.inl rfl⟩
theorem tpX10_119 : fP cG RX10 119 1 19 6 (.inl 6) .int := ⟨by decide +kernel, Or.inl rfl, _, _, _, _, "ThriftNode$Node", tyX2, rfl, rfl, rfl, by decide, in_X2, Or.inr ⟨_, q681⟩, Or.inl rfl, tyX2_ok, nmX2, rfl, rfl⟩
theorem tgX11_15 : fG cG RX11 15 1 1 (.inr (.inl 3)) := ⟨_, _, _, _, "ThriftNode$Node", rfl, rfl, rfl, by decide, in_X2, Or.inr ⟨_, q637⟩, Or.inl rfl⟩
theorem tpX11_37 : fP cG RX11 37 9 1 11 (.inl 11) .int := ⟨by decide +kernel, Or.inl rfl, _, _, _, _, "ThriftNode$Commit", tyX11, rfl, rfl, rfl, by decide, in_X11, Or.inl q625, Or.inl rfl, tyX11_ok, nmX11, rfl, rfl⟩
theorem tpX11_41 : fP cG RX11 41 1 12 17 (.inr (.inr 17)) (.object "ThriftNode$Stage") := ⟨by decide +kernel, Or.inr rfl, _, _, _, _, "ThriftNode$Node", tyX2, rfl, rfl, rfl, by decide, in_X2, Or.inr ⟨_, q665⟩, Or.inl rfl, tyX2_ok, nmX2, rfl, rfl⟩
theorem tgX11_37 : fG cG RX11 37 9 1 (.inl 11) := ⟨_, _, _, _, "ThriftNode$Commit", rfl, rfl, rfl, by decide, in_X11, Or.inl q625, Or.inl rfl⟩
theorem tgX11_45 : fG cG RX11 45 3 3 (.inl 12) := ⟨_, _, _, _, "ThriftNode$Pending", rfl, rfl, rfl, by decide, in_X4, Or.inr ⟨_, q123⟩, Or.inl rfl⟩
theorem tr_X11 : rG cG 9 RX11 := ⟨_, _, _, rfl, rfl⟩
theorem tgX11_48 : fG cG RX11 48 3 1 (.inr (.inl 12)) := ⟨_, _, _, _, "ThriftNode$Pending", rfl, rfl, rfl, by decide, in_X4, Or.inr ⟨_, q118⟩, Or.inl rfl⟩
theorem tgX11_51 : fG cG RX11 51 3 2 (.inr (.inl 13)) := ⟨_, _, _, _, "ThriftNode$Pending", rfl, rfl, rfl, by decide, in_X4, Or.inr ⟨_, q120⟩, Or.inl rfl⟩
theorem tpX2_84 : fP cG RX2 84 1 17 4 (.inl 4) .int := ⟨by decide +kernel, Or.inl rfl, _, _, _, _, "ThriftNode$Node", tyX2, rfl, rfl, rfl, by decide, in_X2, Or.inl q677, Or.inl rfl, tyX2_ok, nmX2, rfl, rfl⟩
theorem tgX2_120 : fG cG RX2 120 1 18 (.inl 5) := ⟨_, _, _, _, "ThriftNode$Node", rfl, rfl, rfl, by decide, in_X2, Or.inl q679, Or.inl rfl⟩
theorem tpX2_120 : fP cG RX2 120 1 18 5 (.inl 5) .int := ⟨by decide +kernel, Or.inl rfl, _, _, _, _, "ThriftNode$Node", tyX2, rfl, rfl, rfl, by decide, in_X2, Or.inl q679, Or.inl rfl, tyX2_ok, nmX2, rfl, rfl⟩
theorem tr_X8 : rG cG 6 RX8 := ⟨_, _, _, rfl, rfl⟩
theorem tr_X9 : rG cG 7 RX9 := ⟨_, _, _, rfl, rfl⟩
theorem tgX2_84 : fG cG RX2 84 1 17 (.inl 4) := ⟨_, _, _, _, "ThriftNode$Node", rfl, rfl, rfl, by decide, in_X2, Or.inl q677, Or.inl rfl⟩
theorem tgX2_132 : fG cG RX2 132 1 13 (.inl 0) := ⟨_, _, _, _, "ThriftNode$Node", rfl, rfl, rfl, by decide, in_X2, Or.inl q668, Or.inl rfl⟩
theorem tpX2_132 : fP cG RX2 132 1 13 0 (.inl 0) .int := ⟨by decide +kernel, Or.inl rfl, _, _, _, _, "ThriftNode$Node", tyX2, rfl, rfl, rfl, by decide, in_X2, Or.inl q668, Or.inl rfl, tyX2_ok, nmX2, rfl, rfl⟩
theorem tgX2_59 : fG cG RX2 59 1 8 (.inr (.inl 6)) := ⟨_, _, _, _, "ThriftNode$Node", rfl, rfl, rfl, by decide, in_X2, Or.inl q656, Or.inl rfl⟩
theorem tpX2_135 : fP cG RX2 135 6 1 8 (.inl 8) .int := ⟨by decide +kernel, Or.inl rfl, _, _, _, _, "ThriftNode$Replay", tyX8, rfl, rfl, rfl, by decide, in_X8, Or.inr ⟨_, q577⟩, Or.inl rfl, tyX8_ok, nmX8, rfl, rfl⟩
theorem kX4_26 : kV RX4 26 RX4 yX4_find cX4_find 3 (some .int) 1 := ⟨lw_V q1005 q1007 qs12 q41 q1008, by decide +kernel, by decide⟩
theorem kX8_31 : kV RX8 31 RX3 yX3_write cX3_write 3 none 2 := ⟨lw_V q993 q967 q968 q40 q969, by decide +kernel, by decide⟩
theorem kX9_39 : kV RX9 39 RX6 yX6_put cX6_put 3 none 2 := ⟨lw_V q970 q971 q972 q61 q973, by decide +kernel, by decide⟩
theorem kX9_31 : kV RX9 31 RX3 yX3_write cX3_write 3 none 2 := ⟨lw_V q966 q967 q968 q40 q969, by decide +kernel, by decide⟩
theorem kX10_112 : kV RX10 112 RX4 yX4_takes cX4_takes 3 (some .boolean) 2 := ⟨lw_V q1017 q1018 q1019 q41 q1020, by decide +kernel, by decide⟩
theorem kX10_116 : kV RX10 116 RX4 yX4_write cX4_write 4 none 2 := ⟨lw_V q1021 q1002 q1003 q41 q1004, by decide +kernel, by decide⟩
theorem kX10_83 : kV RX10 83 RX4 yX4_read cX4_read 3 (some .int) 1 := ⟨lw_V q1009 q1010 q1011 q41 q1012, by decide +kernel, by decide⟩
theorem kX2_96 : kV RX2 96 RX2 yX2_clear cX2_clear 2 none 0 := ⟨lw_V q905 q907 qs8 q39 q908, by decide +kernel, by decide⟩
theorem kX2_117 : kV RX2 117 RX10 yX10_begin cX10_begin 1 none 0 := ⟨lw_V q909 q910 q911 q65 q912, by decide +kernel, by decide⟩
theorem kX10_122 : kV RX10 122 RX2 yX2_leave cX2_leave 1 none 0 := ⟨lw_V q1038 q987 q988 q39 q989, by decide +kernel, by decide⟩
theorem kX11_23 : kV RX11 23 RX4 yX4_write cX4_write 4 none 2 := ⟨lw_V q1001 q1002 q1003 q41 q1004, by decide +kernel, by decide⟩
theorem kX11_54 : kV RX11 54 RX3 yX3_write cX3_write 3 none 2 := ⟨lw_V q977 q967 q968 q40 q969, by decide +kernel, by decide⟩
theorem kX11_59 : kV RX11 59 RX2 yX2_succeeded cX2_succeeded 1 none 0 := ⟨lw_V q982 q983 q984 q39 q985, by decide +kernel, by decide⟩
theorem kX11_62 : kV RX11 62 RX2 yX2_leave cX2_leave 1 none 0 := ⟨lw_V q986 q987 q988 q39 q989, by decide +kernel, by decide⟩
theorem kX11_55 : kV RX11 55 RX11 yX11_end cX11_end 1 none 0 := ⟨lw_V q978 q980 qs11 q66 q981, by decide +kernel, by decide⟩
theorem uX2_123_X8 : kU RX2 123 RX8 ⟨"ThriftNode$Stage", "counts", "()Z"⟩ yX7_counts cX7_counts 1 (some .boolean) 0 := ⟨q954, q62, q944, q943, q945, q950, Or.inr ⟨q944, _, _, _, q954⟩, by decide +kernel, by decide⟩
theorem uX2_123_X9 : kU RX2 123 RX9 ⟨"ThriftNode$Stage", "counts", "()Z"⟩ yX7_counts cX7_counts 1 (some .boolean) 0 := ⟨q954, q62, q944, q943, q945, q946, Or.inr ⟨q944, _, _, _, q954⟩, by decide +kernel, by decide⟩
theorem uX2_123_X10 : kU RX2 123 RX10 ⟨"ThriftNode$Stage", "counts", "()Z"⟩ yX10_counts cX10_counts 1 (some .boolean) 0 := ⟨q953, q65, q952, q943, q945, q951, Or.inr ⟨q944, _, _, _, q954⟩, by decide +kernel, by decide⟩
theorem uX2_123_X11 : kU RX2 123 RX11 ⟨"ThriftNode$Stage", "counts", "()Z"⟩ yX11_counts cX11_counts 1 (some .boolean) 0 := ⟨q949, q66, q948, q943, q945, q947, Or.inr ⟨q944, _, _, _, q954⟩, by decide +kernel, by decide⟩
