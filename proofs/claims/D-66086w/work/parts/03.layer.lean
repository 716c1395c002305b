/-! THE LAYER: one judgement 'Vw' over the kit's W, with the heap, the written places and the locals' array hidden; worlds as graphs of int fields and int arrays over a pure state XS -/
abbrev y_cl : List vw_C := [(RX12, TX12, 32), (RX1, TX1, 1), (RX2, TX2, 21), (RX3, TX3, 2), (RX4, TX4, 4), (RX5, TX5, 2), (RX6, TX6, 5), (RX8, TX8, 2), (RX9, TX9, 2), (RX10, TX10, 3), (RX11, TX11, 2), (RX13, TX13, 4), (RJ2, TJ2, 3)]
/-- the pure state: scalars by number, int arrays by number -/
abbrev XS : Type := (Nat → Int32) × (Nat → Nat → Int32)
def xs (S : XS) (k : Nat) (v : Int32) : XS := (fun j => if j = k then v else S.1 j, S.2)
def xa (S : XS) (j i : Nat) (v : Int32) : XS := (S.1, fun a => if a = j then upd (S.2 j) i v else S.2 a)
/-- a field: an int (scalar's number), a reference to a cell, a reference or null by a scalar -/
abbrev FK : Type := Nat ⊕ (Nat ⊕ Nat)
/-- a cell: an object (class, fields) or an int array (its number, its length) -/
abbrev GC : Type := (Nat × List FK) ⊕ (Nat × Nat)
def g_dv (h : Nat → Nat) (x : Int32) : Option Nat := if x = 0 then none else some (h x.toNatClampNeg)
def g_fv (h : Nat → Nat) (S : XS) (f : FK) : Value := match f with
  | .inl i => .int (S.1 i)
  | .inr (.inl k) => .ref (h k)
  | .inr (.inr i) => va_rf (g_dv h (S.1 i))
def g_cell (dA : ClassId) (h : Nat → Nat) (S : XS) (k : Nat) (c : GC) : Nat × va_E := match c with
  | .inl o => (h k, .inr (o.1, o.2.map (g_fv h S)))
  | .inr a => (h k, .inl (dA, a.2, .inl (S.2 a.1)))
def g_W (dA : ClassId) (G : List GC) (h : Nat → Nat) (S : XS) : va_W := G.mapIdx (fun k c => g_cell dA h S k c)
theorem g_get {dA : ClassId} {G : List GC} {h : Nat → Nat} {S : XS} {q : Nat} {c : GC} (hq : G[q]? = some c) (ex : va_W) : (g_W dA G h S ++ ex)[q]? = some (g_cell dA h S q c) := by
  have hl : q < G.length := (List.getElem?_eq_some_iff.mp hq).1
  rw [List.getElem?_append_left (by simpa [g_W] using hl)]
  simp [g_W, hq]
/-- scalar i stands at field k of cell q, and nowhere else -/
def g_uq (G : List GC) (i q k : Nat) : Bool := (List.range G.length).all fun q' => match G[q']? with
  | some (.inl o) => (List.range o.2.length).all fun k' => match o.2[k']? with
    | some (.inl i') => i' != i || (q' == q && k' == k)
    | some (.inr (.inr i')) => i' != i || (q' == q && k' == k)
    | _ => true
  | _ => true
theorem g_uq_spec {G : List GC} {i q k : Nat} (h : g_uq G i q k = true) {q' k' : Nat} {o : Nat × List FK} (h1 : G[q']? = some (.inl o)) (h2 : o.2[k']? = some (.inl i) ∨ o.2[k']? = some (.inr (.inr i))) : q' = q ∧ k' = k := by
  have a := List.all_eq_true.mp h q' (List.mem_range.mpr (List.getElem?_eq_some_iff.mp h1).1)
  rw [h1] at a
  have hk : k' < o.2.length := by
    rcases h2 with h2 | h2 <;> exact (List.getElem?_eq_some_iff.mp h2).1
  have b := List.all_eq_true.mp a k' (List.mem_range.mpr hk)
  rcases h2 with h2 | h2 <;> rw [h2] at b <;> simpa using b
/-- array j is cell q, and no other -/
def g_ua (G : List GC) (j q : Nat) : Bool := (List.range G.length).all fun q' => match G[q']? with
  | some (.inr a) => a.1 != j || q' == q
  | _ => true
theorem g_ua_spec {G : List GC} {j q : Nat} (h : g_ua G j q = true) {q' : Nat} {a : Nat × Nat} (h1 : G[q']? = some (.inr a)) (h2 : a.1 = j) : q' = q := by
  have b := List.all_eq_true.mp h q' (List.mem_range.mpr (List.getElem?_eq_some_iff.mp h1).1)
  rw [h1] at b
  simpa [h2] using b
theorem g_fv_ne {h : Nat → Nat} {S : XS} {i : Nat} {v : Int32} {f : FK} (h1 : f ≠ .inl i) (h2 : f ≠ .inr (.inr i)) : g_fv h (xs S i v) f = g_fv h S f := by
  rcases f with a | a | a
  · have : a ≠ i := fun e => h1 (by rw [e])
    simp [g_fv, xs, this]
  · rfl
  · have : a ≠ i := fun e => h2 (by rw [e])
    simp [g_fv, xs, this]
/-- a scalar's field is written: the world of the new state -/
theorem g_put {dA : ClassId} {G : List GC} {h : Nat → Nat} {S : XS} {i q k : Nat} {o : Nat × List FK} {f : FK} {v : Int32} (hu : g_uq G i q k = true) (hq : G[q]? = some (.inl o)) (hf : o.2[k]? = some f) (hfi : f = .inl i ∨ f = .inr (.inr i)) (ex : va_W) :
    (g_W dA G h S ++ ex).set q (h q, .inr (o.1, (o.2.map (g_fv h S)).set k (g_fv h (xs S i v) f))) = g_W dA G h (xs S i v) ++ ex := by
  have hl : q < G.length := (List.getElem?_eq_some_iff.mp hq).1
  rw [List.set_append_left _ _ (by simpa [g_W] using hl)]
  congr 1
  apply List.ext_getElem?
  intro p
  by_cases hp : p = q
  · subst hp
    rw [List.getElem?_set_self (by simpa [g_W] using hl)]
    simp only [g_W, List.getElem?_mapIdx, hq, Option.map_some]
    congr 1
    show _ = g_cell dA h (xs S i v) p (.inl o)
    simp only [g_cell]
    congr 3
    apply List.ext_getElem?
    intro j
    by_cases hj : j = k
    · subst hj
      rw [List.getElem?_set_self (by simpa using (List.getElem?_eq_some_iff.mp hf).1)]
      simp [hf]
    · rw [List.getElem?_set_ne (Ne.symm hj)]
      simp only [List.getElem?_map]
      cases hoj : o.2[j]? with
      | none => rfl
      | some g =>
        have n1 : g ≠ .inl i := fun e => hj (g_uq_spec hu hq (k' := j) (Or.inl (by rw [hoj, e]))).2
        have n2 : g ≠ .inr (.inr i) := fun e => hj (g_uq_spec hu hq (k' := j) (Or.inr (by rw [hoj, e]))).2
        simp [g_fv_ne n1 n2]
  · rw [List.getElem?_set_ne (Ne.symm hp)]
    simp only [g_W, List.getElem?_mapIdx]
    cases hg : G[p]? with
    | none => rfl
    | some c =>
      simp only [Option.map_some]
      congr 1
      rcases c with o' | a
      · simp only [g_cell]
        congr 3
        apply List.map_congr_left
        intro g hgm
        obtain ⟨j, hj⟩ := List.getElem?_of_mem hgm
        have n1 : g ≠ .inl i := fun e => hp (g_uq_spec hu hg (k' := j) (Or.inl (by rw [hj, e]))).1
        have n2 : g ≠ .inr (.inr i) := fun e => hp (g_uq_spec hu hg (k' := j) (Or.inr (by rw [hj, e]))).1
        exact (g_fv_ne n1 n2).symm
      · rfl
theorem g_putA {dA : ClassId} {G : List GC} {h : Nat → Nat} {S : XS} {j n q i : Nat} {v : Int32} (hu : g_ua G j q = true) (hq : G[q]? = some (.inr (j, n))) (ex : va_W) :
    (g_W dA G h S ++ ex).set q (h q, .inl (dA, n, .inl (upd (S.2 j) i v))) = g_W dA G h (xa S j i v) ++ ex := by
  have hl : q < G.length := (List.getElem?_eq_some_iff.mp hq).1
  rw [List.set_append_left _ _ (by simpa [g_W] using hl)]
  congr 1
  apply List.ext_getElem?
  intro p
  by_cases hp : p = q
  · subst hp
    rw [List.getElem?_set_self (by simpa [g_W] using hl)]
    simp [g_W, hq, g_cell, xa]
  · rw [List.getElem?_set_ne (Ne.symm hp)]
    simp only [g_W, List.getElem?_mapIdx]
    cases hg : G[p]? with
    | none => rfl
    | some c =>
      simp only [Option.map_some]
      congr 1
      rcases c with o' | a
      · rfl
      · have : a.1 ≠ j := fun e => hp (g_ua_spec hu hg e)
        simp [g_cell, xa, this]
/-- nest mates' links, declarations, casts: words that ride along -/
def y_nb : Cond → Bool
  | .fieldLinkNest _ _ _ _ _ _ => true
  | .methodLinkNest _ _ _ _ => true
  | .declares _ => true
  | .castable _ _ => true
  | _ => false
def yN0 (U : State) : Prop := ∀ w ∈ lw_tbl, y_nb w = true → va_Nw w U
/-- .. and what the tables say of arrays of objects -/
def yN (U : State) : Prop := yN0 U ∧ va_AO "java/lang/Object" U ∧ ∃ mi : Nat, va_Mi "[Ljava/lang/Object;" mi U
theorem y_nb_on {w : Cond} (h : y_nb w = true) : w.onTables = true := by
  cases w <;> first | rfl | (simp [y_nb] at h)
theorem yN0.warm {s U : State} (hW : s.WarmedH U.vm) (h : yN0 s) : yN0 U := by
  intro w hw hb
  have h1 := h w hw hb
  cases w <;> first | exact va_Nw.warmF hW h1 | exact va_Nw.warmM hW h1 | exact va_Nw.warmD hW h1 | exact va_Nw.warmC hW h1 | (simp [y_nb] at hb)
theorem yN.warm {s U : State} (hW : s.WarmedH U.vm) (h : yN s) : yN U := by
  obtain ⟨h1, h2, mi, h3⟩ := h
  exact ⟨h1.warm hW, h2.moved hW.alike, mi, h3.moved hW.alike⟩
theorem yN.same {u U : State} (h : u.vm = U.vm) (hZ : yN u) : yN U := by
  obtain ⟨h1, h2, mi, h3⟩ := hZ
  have ha : u.vm.Alike U.vm := h ▸ Vm.Alike.refl u.vm
  exact ⟨fun w hw hb => va_Nw.same (y_nb_on hb) h (h1 w hw hb), h2.moved ha, mi, h3.moved ha⟩
/-- the locals: the first ones, in order, each of one slot -/
def y_ls (ls : Array Slot) (nL : Nat) (lv : List Value) : Prop := ls.size = nL ∧ lv_wf ls ∧ (∀ v ∈ lv, v.category = 1) ∧ ∀ (k : Nat) (v : Value), lv[k]? = some v → ls[k]? = some (.val v)
def y_st : List Value → Nat → Value → List Value
  | [], _, v => [v]
  | _ :: l, 0, v => v :: l
  | a :: l, i + 1, v => a :: y_st l i v
theorem y_st_get : ∀ (lv : List Value) (i : Nat) (v : Value), i ≤ lv.length → ∀ (k : Nat) (w : Value), (y_st lv i v)[k]? = some w → (k = i ∧ w = v) ∨ (k ≠ i ∧ lv[k]? = some w)
  | [], i, v, hi, k, w, h => by
    have : i = 0 := by simpa using hi
    subst this
    cases k with
    | zero => left; simp [y_st] at h; exact ⟨rfl, h.symm⟩
    | succ k => simp [y_st] at h
  | a :: l, 0, v, hi, k, w, h => by
    cases k with
    | zero => left; simp [y_st] at h; exact ⟨rfl, h.symm⟩
    | succ k => right; exact ⟨by omega, by simpa [y_st] using h⟩
  | a :: l, i + 1, v, hi, k, w, h => by
    cases k with
    | zero => right; exact ⟨by omega, by simpa [y_st] using h⟩
    | succ k =>
      have h' : (y_st l i v)[k]? = some w := by simpa [y_st] using h
      rcases y_st_get l i v (by simpa using hi) k w h' with ⟨e1, e2⟩ | ⟨e1, e2⟩
      · left; exact ⟨by omega, e2⟩
      · right; exact ⟨by omega, by simpa using e2⟩
theorem y_ls.has {ls : Array Slot} {nL : Nat} {lv : List Value} (h : y_ls ls nL lv) : lv_has ls nL (lv.mapIdx (fun k v => (k, v))) := by
  refine ⟨h.1, h.2.1, fun q hq => ?_⟩
  obtain ⟨k, hk⟩ := List.getElem?_of_mem hq
  simp only [List.getElem?_mapIdx] at hk
  cases hv : lv[k]? with
  | none => rw [hv] at hk; simp at hk
  | some v =>
    rw [hv] at hk
    simp at hk
    rw [← hk]
    exact h.2.2.2 k v hv
theorem y_ls.put {ls ls' : Array Slot} {nL i : Nat} {lv : List Value} {v : Value} (h : y_ls ls nL lv) (hi : i ≤ lv.length) (hc : v.category = 1) (h' : lv_has ls' nL ((i, v) :: (lv.mapIdx (fun k v => (k, v))).filter (fun q => !(q.1 == i) && !(q.1 + 1 == i && q.2.category == 2)))) : y_ls ls' nL (y_st lv i v) := by
  refine ⟨h'.1, h'.2.1, fun w hw => ?_, fun k w hk => ?_⟩
  · obtain ⟨k, hk⟩ := List.getElem?_of_mem hw
    rcases y_st_get lv i v hi k w hk with ⟨-, e⟩ | ⟨-, e⟩
    · rw [e]; exact hc
    · exact h.2.2.1 w (List.mem_of_getElem? e)
  · rcases y_st_get lv i v hi k w hk with ⟨e1, e2⟩ | ⟨e1, e2⟩
    · subst e1 e2
      exact h'.2.2 (k, w) List.mem_cons_self
    · refine h'.2.2 (k, w) (List.mem_cons_of_mem _ (List.mem_filter.mpr ⟨?_, ?_⟩))
      · refine List.mem_of_getElem? (i := k) ?_
        simp [e2]
      · have := h.2.2.1 w (List.mem_of_getElem? e2)
        simp [e1, this]
theorem y_ls.take {ls : Array Slot} {nL : Nat} {lv : List Value} (h : y_ls ls nL lv) (n : Nat) : y_ls ls nL (lv.take n) :=
  ⟨h.1, h.2.1, fun v hv => h.2.2.1 v (List.mem_of_mem_take hv), fun k v hk => h.2.2.2 k v (by
    rw [List.getElem?_take] at hk
    split at hk
    · exact hk
    · cases hk)⟩
theorem y_args_get : ∀ (vs : List Value) (i : Nat), (∀ v ∈ vs, v.category = 1) → ∀ (k : Nat) (v : Value), vs[k]? = some v → (i + k, v) ∈ lv_args i vs
  | [], i, hc, k, v, h => by simp at h
  | a :: l, i, hc, k, v, h => by
    have ha : a.category = 1 := hc a List.mem_cons_self
    have e : lv_args i (a :: l) = (i, a) :: lv_args (i + 1) l := by simp [lv_args, ha]
    rw [e]
    cases k with
    | zero => simp at h; subst h; exact List.mem_cons_self
    | succ k =>
      have := y_args_get l (i + 1) (fun v hv => hc v (List.mem_cons_of_mem _ hv)) k v (by simpa using h)
      rw [show i + (k + 1) = i + 1 + k by omega]
      exact List.mem_cons_of_mem _ this
theorem y_sl_len (vs : List Value) (hc : ∀ v ∈ vs, v.category = 1) : (lg_sl vs).length = vs.length := by
  induction vs with
  | nil => rfl
  | cons a l ih =>
    have ha : a.category = 1 := hc a List.mem_cons_self
    have := ih (fun v hv => hc v (List.mem_cons_of_mem _ hv))
    simp only [lg_sl, List.flatMap_cons, List.length_append, List.length_cons] at this ⊢
    rw [this, if_neg (by omega)]
    simp; omega
/-- a method's context -/
abbrev YK : Type := Program × Launch × Env × Room × State × MethodId × Array Value × List Frame × Method × Code × (State → Prop) × (Nat → Prop) × va_G × (ClassId × ClassId × ClassId)
abbrev kP (K : YK) : Program := K.1
abbrev kL (K : YK) : Launch := K.2.1
abbrev kE (K : YK) : Env := K.2.2.1
abbrev kR (K : YK) : Room := K.2.2.2.1
abbrev ks (K : YK) : State := K.2.2.2.2.1
abbrev km (K : YK) : MethodId := K.2.2.2.2.2.1
abbrev ka (K : YK) : Array Value := K.2.2.2.2.2.2.1
abbrev kb (K : YK) : List Frame := K.2.2.2.2.2.2.2.1
abbrev kM (K : YK) : Method := K.2.2.2.2.2.2.2.2.1
abbrev kc (K : YK) : Code := K.2.2.2.2.2.2.2.2.2.1
abbrev kQ (K : YK) : State → Prop := K.2.2.2.2.2.2.2.2.2.2.1
abbrev kA (K : YK) : Nat → Prop := K.2.2.2.2.2.2.2.2.2.2.2.1
abbrev kD (K : YK) : va_G := K.2.2.2.2.2.2.2.2.2.2.2.2.1
abbrev kd (K : YK) : ClassId × ClassId × ClassId := K.2.2.2.2.2.2.2.2.2.2.2.2.2
def y_tys (d : ClassId × ClassId × ClassId) : List (ClassId × FieldType) := [(d.1, .int), (d.2.1, .long), (d.2.2, .object "java/lang/Object")]
def y_cost (j : Nat) : Int32 := [1, 1, 1, 1, 4, 1, 1, 1, 2, 2, 2, 2, 3, 3, 10, 3, 1, 1].getD j 0
/-- the statics that the code reads: the table of costs -/
def yZ (A : Nat → Prop) (U : State) (H : Heap) : Prop := ∃ t : Nat, va_Z "ThriftNode$Instruction" "COSTS" "[I" (.ref t) A U H ∧ va_T .int t 18 (fun j => .int (y_cost j)) A U H
def yW (K : YK) (H : Heap) (locs : List Loc) (k n : Nat) (g : JFrame) : Prop := W (kP K) (kL K) (kE K) (kR K) (ks K) (km K) (ka K) (kb K) (kM K) (kc K) H locs k n (kQ K) g
def Y (K : YK) (cc : ByteArray) (own : String) (nL d : Nat) : Prop :=
  (kP K).tables.exec = Jvm.exec ∧ (kc K).code = cc ∧ (kc K).maxLocals = nL ∧ (ks K).vm.findClass own = some (km K).cls ∧ (∀ w ∈ lw_all, w.before (ka K) (ks K) = true) ∧ va_K (kD K) y_cl (y_tys (kd K)) (ks K) ∧ yN (ks K) ∧ (∀ q, (ks K).heap.size ≤ q → kA K q) ∧ (kM K).locks = false ∧ (d ≤ (kR K).frames ∧ 64 * d ≤ (kR K).locals) ∧ yZ (kA K) (ks K) (ks K).heap
def Vw (K : YK) (nL : Nat) (ws : va_W) (k n : Nat) (lv : List Value) (pc : Nat) (st : List Value) : Prop :=
  ∀ (H : Heap) (locs : List Loc) (ls : Array Slot), va_P (kD K) y_cl ws H → va_D (kA K) ws → va_S (kA K) (ks K).heap H locs → y_ls ls nL lv → yW K H locs k n (F0 (km K) pc ls st)
def dk (cc : ByteArray) (pc : Nat) (i : Instr) (len pc' : Nat) : Prop := decode cc pc = .ok (i, len) ∧ pc + len = pc'
def db (cc : ByteArray) (pc : Nat) (i : Instr) (off : Int) (pc' tgt : Nat) : Prop := decode cc pc = .ok (i, 3) ∧ pc + 3 = pc' ∧ (pc : Int) + off = (tgt : Int)
/-- a constant int is pushed -/
def dq (cc : ByteArray) (pc : Nat) (v : Int32) (pc' : Nat) : Prop := (∃ n, decode cc pc = .ok (.iconst n, 1) ∧ Int32.ofInt n = v ∧ pc + 1 = pc') ∨ (∃ n, decode cc pc = .ok (.bipush n, 2) ∧ (Int8.ofInt n).toInt32 = v ∧ pc + 2 = pc') ∨ (∃ n, decode cc pc = .ok (.sipush n, 3) ∧ (Int16.ofInt n).toInt32 = v ∧ pc + 3 = pc')
theorem dq_i {cc : ByteArray} {pc : Nat} {v : Int32} {pc' : Nat} {n : Int} (h : decode cc pc = .ok (.iconst n, 1)) (hv : Int32.ofInt n = v) (hp : pc + 1 = pc') : dq cc pc v pc' := Or.inl ⟨n, h, hv, hp⟩
theorem dq_b {cc : ByteArray} {pc : Nat} {v : Int32} {pc' : Nat} {n : Int} (h : decode cc pc = .ok (.bipush n, 2)) (hv : (Int8.ofInt n).toInt32 = v) (hp : pc + 2 = pc') : dq cc pc v pc' := Or.inr (Or.inl ⟨n, h, hv, hp⟩)
theorem dq_s {cc : ByteArray} {pc : Nat} {v : Int32} {pc' : Nat} {n : Int} (h : decode cc pc = .ok (.sipush n, 3)) (hv : (Int16.ofInt n).toInt32 = v) (hp : pc + 3 = pc') : dq cc pc v pc' := Or.inr (Or.inr ⟨n, h, hv, hp⟩)
/-- local i is loaded: an int, or a reference -/
def dli (cc : ByteArray) (pc i pc' : Nat) : Prop := (∃ k : Fin 4, decode cc pc = .ok (.iload_n k, 1) ∧ (k : Nat) = i ∧ pc + 1 = pc') ∨ (decode cc pc = .ok (.iload i, 2) ∧ pc + 2 = pc')
def dla (cc : ByteArray) (pc i pc' : Nat) : Prop := (∃ k : Fin 4, decode cc pc = .ok (.aload_n k, 1) ∧ (k : Nat) = i ∧ pc + 1 = pc') ∨ (decode cc pc = .ok (.aload i, 2) ∧ pc + 2 = pc')
def dsi (cc : ByteArray) (pc i pc' : Nat) : Prop := (∃ k : Fin 4, decode cc pc = .ok (.istore_n k, 1) ∧ (k : Nat) = i ∧ pc + 1 = pc') ∨ (decode cc pc = .ok (.istore i, 2) ∧ pc + 2 = pc')
def dsa (cc : ByteArray) (pc i pc' : Nat) : Prop := (∃ k : Fin 4, decode cc pc = .ok (.astore_n k, 1) ∧ (k : Nat) = i ∧ pc + 1 = pc') ∨ (decode cc pc = .ok (.astore i, 2) ∧ pc + 2 = pc')
section YR
variable {K : YK} {cc : ByteArray} {own : String} {nL d : Nat} {ws : va_W} {k n : Nat} {lv : List Value} {pc pc' tgt : Nat} {st : List Value} {off : Int}
theorem y_const (o : Y K cc own nL d) {v : Int32} (h : dq cc pc v pc') (kk : Vw K nL ws k n lv pc' (.int v :: st)) : Vw K nL ws k n lv pc st := by
  intro H locs ls hP hD hS hl
  rcases h with ⟨i, h1, h2, h3⟩ | ⟨i, h1, h2, h3⟩ | ⟨i, h1, h2, h3⟩
  · subst h3; exact lv_iconst o.1 o.2.1 h1 h2 (kk H locs ls hP hD hS hl)
  · subst h3; exact lv_bipush o.1 o.2.1 h1 h2 (kk H locs ls hP hD hS hl)
  · subst h3; exact lv_sipush o.1 o.2.1 h1 h2 (kk H locs ls hP hD hS hl)
theorem y_iload (o : Y K cc own nL d) {i : Nat} {x : Int32} (h : dli cc pc i pc') (hv : lv[i]? = some (.int x)) (kk : Vw K nL ws k n lv pc' (.int x :: st)) : Vw K nL ws k n lv pc st := by
  intro H locs ls hP hD hS hl
  rcases h with ⟨j, h1, h2, h3⟩ | ⟨h1, h3⟩
  · subst h3; exact lv_iload_n o.1 o.2.1 h1 h2 (hl.2.2.2 i _ hv) (kk H locs ls hP hD hS hl)
  · subst h3; exact lv_iload o.1 o.2.1 h1 (hl.2.2.2 i _ hv) (kk H locs ls hP hD hS hl)
theorem y_aload (o : Y K cc own nL d) {i : Nat} {x : Nat} (h : dla cc pc i pc') (hv : lv[i]? = some (.ref x)) (kk : Vw K nL ws k n lv pc' (.ref x :: st)) : Vw K nL ws k n lv pc st := by
  intro H locs ls hP hD hS hl
  rcases h with ⟨j, h1, h2, h3⟩ | ⟨h1, h3⟩
  · subst h3; exact lv_aload_n o.1 o.2.1 h1 h2 (hl.2.2.2 i _ hv) (kk H locs ls hP hD hS hl)
  · subst h3; exact lv_aload o.1 o.2.1 h1 (hl.2.2.2 i _ hv) (kk H locs ls hP hD hS hl)
theorem y_istore (o : Y K cc own nL d) {i : Nat} {x : Int32} (h : dsi cc pc i pc') (hn : i < nL) (hi : i ≤ lv.length) (kk : Vw K nL ws k n (y_st lv i (.int x)) pc' st) : Vw K nL ws k n lv pc (.int x :: st) := by
  intro H locs ls hP hD hS hl
  rcases h with ⟨j, h1, h2, h3⟩ | ⟨h1, h3⟩
  · subst h3; exact lv_istore_n o.1 o.2.1 h1 h2 hl.has hn rfl (fun ls' h' => kk H locs ls' hP hD hS (hl.put hi rfl h'))
  · subst h3; exact lv_istore o.1 o.2.1 h1 hl.has hn rfl (fun ls' h' => kk H locs ls' hP hD hS (hl.put hi rfl h'))
theorem y_astore (o : Y K cc own nL d) {i : Nat} {x : Nat} (h : dsa cc pc i pc') (hn : i < nL) (hi : i ≤ lv.length) (kk : Vw K nL ws k n (y_st lv i (.ref x)) pc' st) : Vw K nL ws k n lv pc (.ref x :: st) := by
  intro H locs ls hP hD hS hl
  rcases h with ⟨j, h1, h2, h3⟩ | ⟨h1, h3⟩
  · subst h3; exact lv_astore_n o.1 o.2.1 h1 h2 hl.has hn rfl (fun ls' h' => kk H locs ls' hP hD hS (hl.put hi rfl h'))
  · subst h3; exact lv_astore o.1 o.2.1 h1 hl.has hn rfl (fun ls' h' => kk H locs ls' hP hD hS (hl.put hi rfl h'))
theorem y_iinc (o : Y K cc own nL d) {i : Nat} {c : Int} {x v : Int32} (h : dk cc pc (.iinc i c) 3 pc') (hx : lv[i]? = some (.int x)) (hv : x + Int32.ofInt c = v) (hn : i < nL) (kk : Vw K nL ws k n (y_st lv i (.int v)) pc' st) : Vw K nL ws k n lv pc st := by
  intro H locs ls hP hD hS hl
  obtain ⟨h1, h3⟩ := h
  subst h3
  refine lv_iinc (k := i) o.1 o.2.1 h1 hl.has ?_ hv hn rfl (fun ls' h' => kk H locs ls' hP hD hS (hl.put (Nat.le_of_lt (List.getElem?_eq_some_iff.mp hx).1) rfl h'))
  simp [hx]
theorem y_iadd (o : Y K cc own nL d) {x y : Int32} (h : dk cc pc .iadd 1 pc') (kk : Vw K nL ws k n lv pc' (.int (x + y) :: st)) : Vw K nL ws k n lv pc (.int y :: .int x :: st) := by
  intro H locs ls hP hD hS hl
  obtain ⟨h1, h3⟩ := h; subst h3
  exact lv_iadd o.1 o.2.1 h1 (kk H locs ls hP hD hS hl)
theorem y_isub (o : Y K cc own nL d) {x y : Int32} (h : dk cc pc .isub 1 pc') (kk : Vw K nL ws k n lv pc' (.int (x - y) :: st)) : Vw K nL ws k n lv pc (.int y :: .int x :: st) := by
  intro H locs ls hP hD hS hl
  obtain ⟨h1, h3⟩ := h; subst h3
  exact lv_isub o.1 o.2.1 h1 (kk H locs ls hP hD hS hl)
theorem y_imul (o : Y K cc own nL d) {x y : Int32} (h : dk cc pc .imul 1 pc') (kk : Vw K nL ws k n lv pc' (.int (x * y) :: st)) : Vw K nL ws k n lv pc (.int y :: .int x :: st) := by
  intro H locs ls hP hD hS hl
  obtain ⟨h1, h3⟩ := h; subst h3
  exact lv_imul o.1 o.2.1 h1 (kk H locs ls hP hD hS hl)
theorem y_iand (o : Y K cc own nL d) {x y : Int32} (h : dk cc pc .iand 1 pc') (kk : Vw K nL ws k n lv pc' (.int (x &&& y) :: st)) : Vw K nL ws k n lv pc (.int y :: .int x :: st) := by
  intro H locs ls hP hD hS hl
  obtain ⟨h1, h3⟩ := h; subst h3
  exact lv_iand o.1 o.2.1 h1 (kk H locs ls hP hD hS hl)
theorem y_ior (o : Y K cc own nL d) {x y : Int32} (h : dk cc pc .ior 1 pc') (kk : Vw K nL ws k n lv pc' (.int (x ||| y) :: st)) : Vw K nL ws k n lv pc (.int y :: .int x :: st) := by
  intro H locs ls hP hD hS hl
  obtain ⟨h1, h3⟩ := h; subst h3
  exact lv_ior o.1 o.2.1 h1 (kk H locs ls hP hD hS hl)
theorem y_ixor (o : Y K cc own nL d) {x y : Int32} (h : dk cc pc .ixor 1 pc') (kk : Vw K nL ws k n lv pc' (.int (x ^^^ y) :: st)) : Vw K nL ws k n lv pc (.int y :: .int x :: st) := by
  intro H locs ls hP hD hS hl
  obtain ⟨h1, h3⟩ := h; subst h3
  exact lv_ixor o.1 o.2.1 h1 (kk H locs ls hP hD hS hl)
theorem y_idiv (o : Y K cc own nL d) {x y : Int32} (h : dk cc pc .idiv 1 pc') (hy : ¬ y = 0) (kk : Vw K nL ws k n lv pc' (.int (x / y) :: st)) : Vw K nL ws k n lv pc (.int y :: .int x :: st) := by
  intro H locs ls hP hD hS hl
  obtain ⟨h1, h3⟩ := h; subst h3
  exact lv_idiv o.1 o.2.1 h1 hy (kk H locs ls hP hD hS hl)
/-- Java's remainder -/
def jrem (x y : Int32) : Int32 := x - x / y * y
theorem y_irem (o : Y K cc own nL d) {x y : Int32} (h : dk cc pc .irem 1 pc') (hy : ¬ y = 0) (kk : Vw K nL ws k n lv pc' (.int (jrem x y) :: st)) : Vw K nL ws k n lv pc (.int y :: .int x :: st) := by
  intro H locs ls hP hD hS hl
  obtain ⟨h1, h3⟩ := h; subst h3
  exact lv_irem o.1 o.2.1 h1 hy (kk H locs ls hP hD hS hl)
theorem y_ishl (o : Y K cc own nL d) {x y : Int32} (h : dk cc pc .ishl 1 pc') (kk : Vw K nL ws k n lv pc' (.int (x <<< (y &&& 31)) :: st)) : Vw K nL ws k n lv pc (.int y :: .int x :: st) := by
  intro H locs ls hP hD hS hl
  obtain ⟨h1, h3⟩ := h; subst h3
  exact lv_ishl o.1 o.2.1 h1 (kk H locs ls hP hD hS hl)
theorem y_ishr (o : Y K cc own nL d) {x y : Int32} (h : dk cc pc .ishr 1 pc') (kk : Vw K nL ws k n lv pc' (.int (x >>> (y &&& 31)) :: st)) : Vw K nL ws k n lv pc (.int y :: .int x :: st) := by
  intro H locs ls hP hD hS hl
  obtain ⟨h1, h3⟩ := h; subst h3
  exact lv_ishr o.1 o.2.1 h1 (kk H locs ls hP hD hS hl)
def jushr (x y : Int32) : Int32 := (x.toUInt32 >>> (y.toUInt32 &&& Int32.toUInt32 31)).toInt32
theorem y_iushr (o : Y K cc own nL d) {x y : Int32} (h : dk cc pc .iushr 1 pc') (kk : Vw K nL ws k n lv pc' (.int (jushr x y) :: st)) : Vw K nL ws k n lv pc (.int y :: .int x :: st) := by
  intro H locs ls hP hD hS hl
  obtain ⟨h1, h3⟩ := h; subst h3
  exact lv_iushr o.1 o.2.1 h1 rfl (kk H locs ls hP hD hS hl)
theorem y_i2s (o : Y K cc own nL d) {x : Int32} (h : dk cc pc .i2s 1 pc') (kk : Vw K nL ws k n lv pc' (.int x.toInt16.toInt32 :: st)) : Vw K nL ws k n lv pc (.int x :: st) := by
  intro H locs ls hP hD hS hl
  obtain ⟨h1, h3⟩ := h; subst h3
  exact lv_i2s o.1 o.2.1 h1 rfl (kk H locs ls hP hD hS hl)
theorem y_i2l (o : Y K cc own nL d) {x : Int32} (h : dk cc pc .i2l 1 pc') (kk : Vw K nL ws k n lv pc' (.long x.toInt64 :: st)) : Vw K nL ws k n lv pc (.int x :: st) := by
  intro H locs ls hP hD hS hl
  obtain ⟨h1, h3⟩ := h; subst h3
  exact lv_i2l o.1 o.2.1 h1 rfl (kk H locs ls hP hD hS hl)
theorem y_dup (o : Y K cc own nL d) {v : Value} (h : dk cc pc .dup 1 pc') (hv : v.category = 1) (kk : Vw K nL ws k n lv pc' (v :: v :: st)) : Vw K nL ws k n lv pc (v :: st) := by
  intro H locs ls hP hD hS hl
  obtain ⟨h1, h3⟩ := h; subst h3
  exact lv_dup o.1 o.2.1 h1 hv (kk H locs ls hP hD hS hl)
theorem y_dup2 (o : Y K cc own nL d) {v w : Value} (h : dk cc pc .dup2 1 pc') (hv : v.category = 1) (hw : w.category = 1) (kk : Vw K nL ws k n lv pc' (v :: w :: v :: w :: st)) : Vw K nL ws k n lv pc (v :: w :: st) := by
  intro H locs ls hP hD hS hl
  obtain ⟨h1, h3⟩ := h; subst h3
  exact lv_dup2_11 o.1 o.2.1 h1 hv hw (kk H locs ls hP hD hS hl)
theorem y_pop (o : Y K cc own nL d) {v : Value} (h : dk cc pc .pop 1 pc') (hv : v.category = 1) (kk : Vw K nL ws k n lv pc' st) : Vw K nL ws k n lv pc (v :: st) := by
  intro H locs ls hP hD hS hl
  obtain ⟨h1, h3⟩ := h; subst h3
  exact lv_pop o.1 o.2.1 h1 hv (kk H locs ls hP hD hS hl)
theorem y_goto (o : Y K cc own nL d) (h : db cc pc (.goto off) off pc' tgt) (kk : Vw K nL ws k n lv tgt st) : Vw K nL ws k n lv pc st := by
  intro H locs ls hP hD hS hl
  exact lv_goto o.1 o.2.1 h.1 h.2.2 (kk H locs ls hP hD hS hl)
theorem y_top (o : Y K cc own nL d) {x : Int32} (kk : ∀ y : Int32, y = x → Vw K nL ws k n lv pc (.int y :: st)) : Vw K nL ws k n lv pc (.int x :: st) := kk x rfl
theorem y_take (m : Nat) {lv' : List Value} (hl' : lv.take m = lv') (kk : Vw K nL ws k n lv' pc st) : Vw K nL ws k n lv pc st := by
  intro H locs ls hP hD hS hl
  subst hl'
  exact kk H locs ls hP hD hS (hl.take m)
theorem y_wide {k' n' : Nat} (h1 : k ≤ k') (h2 : n ≤ n') (kk : Vw K nL ws k' n' lv pc st) : Vw K nL ws k n lv pc st := fun H locs ls hP hD hS hl => W.widen h1 h2 (kk H locs ls hP hD hS hl)
theorem y_if_eq (o : Y K cc own nL d) {x : Int32} (h : db cc pc (.ifCond .eq off) off pc' tgt) (kt : x = 0 → Vw K nL ws k n lv tgt st) (kf : ¬ x = 0 → Vw K nL ws k n lv pc' st) : Vw K nL ws k n lv pc (.int x :: st) := by
  intro H locs ls hP hD hS hl
  obtain ⟨h1, h2, h3⟩ := h; subst h2
  exact lv_if_eq o.1 o.2.1 h1 h3 (fun c => kt c H locs ls hP hD hS hl) (fun c => kf c H locs ls hP hD hS hl)
theorem y_icmp_eq (o : Y K cc own nL d) {x y : Int32} (h : db cc pc (.if_icmp .eq off) off pc' tgt) (kt : x = y → Vw K nL ws k n lv tgt st) (kf : ¬ x = y → Vw K nL ws k n lv pc' st) : Vw K nL ws k n lv pc (.int y :: .int x :: st) := by
  intro H locs ls hP hD hS hl
  obtain ⟨h1, h2, h3⟩ := h; subst h2
  exact lv_icmp_eq o.1 o.2.1 h1 h3 (fun c => kt c H locs ls hP hD hS hl) (fun c => kf c H locs ls hP hD hS hl)
theorem y_if_ne (o : Y K cc own nL d) {x : Int32} (h : db cc pc (.ifCond .ne off) off pc' tgt) (kt : ¬ x = 0 → Vw K nL ws k n lv tgt st) (kf : x = 0 → Vw K nL ws k n lv pc' st) : Vw K nL ws k n lv pc (.int x :: st) := by
  intro H locs ls hP hD hS hl
  obtain ⟨h1, h2, h3⟩ := h; subst h2
  exact lv_if_ne o.1 o.2.1 h1 h3 (fun c => kt c H locs ls hP hD hS hl) (fun c => kf c H locs ls hP hD hS hl)
theorem y_icmp_ne (o : Y K cc own nL d) {x y : Int32} (h : db cc pc (.if_icmp .ne off) off pc' tgt) (kt : ¬ x = y → Vw K nL ws k n lv tgt st) (kf : x = y → Vw K nL ws k n lv pc' st) : Vw K nL ws k n lv pc (.int y :: .int x :: st) := by
  intro H locs ls hP hD hS hl
  obtain ⟨h1, h2, h3⟩ := h; subst h2
  exact lv_icmp_ne o.1 o.2.1 h1 h3 (fun c => kt c H locs ls hP hD hS hl) (fun c => kf c H locs ls hP hD hS hl)
theorem y_if_lt (o : Y K cc own nL d) {x : Int32} (h : db cc pc (.ifCond .lt off) off pc' tgt) (kt : x < 0 → Vw K nL ws k n lv tgt st) (kf : ¬ x < 0 → Vw K nL ws k n lv pc' st) : Vw K nL ws k n lv pc (.int x :: st) := by
  intro H locs ls hP hD hS hl
  obtain ⟨h1, h2, h3⟩ := h; subst h2
  exact lv_if_lt o.1 o.2.1 h1 h3 (fun c => kt c H locs ls hP hD hS hl) (fun c => kf c H locs ls hP hD hS hl)
theorem y_icmp_lt (o : Y K cc own nL d) {x y : Int32} (h : db cc pc (.if_icmp .lt off) off pc' tgt) (kt : x < y → Vw K nL ws k n lv tgt st) (kf : ¬ x < y → Vw K nL ws k n lv pc' st) : Vw K nL ws k n lv pc (.int y :: .int x :: st) := by
  intro H locs ls hP hD hS hl
  obtain ⟨h1, h2, h3⟩ := h; subst h2
  exact lv_icmp_lt o.1 o.2.1 h1 h3 (fun c => kt c H locs ls hP hD hS hl) (fun c => kf c H locs ls hP hD hS hl)
theorem y_if_ge (o : Y K cc own nL d) {x : Int32} (h : db cc pc (.ifCond .ge off) off pc' tgt) (kt : 0 ≤ x → Vw K nL ws k n lv tgt st) (kf : ¬ 0 ≤ x → Vw K nL ws k n lv pc' st) : Vw K nL ws k n lv pc (.int x :: st) := by
  intro H locs ls hP hD hS hl
  obtain ⟨h1, h2, h3⟩ := h; subst h2
  exact lv_if_ge o.1 o.2.1 h1 h3 (fun c => kt c H locs ls hP hD hS hl) (fun c => kf c H locs ls hP hD hS hl)
theorem y_icmp_ge (o : Y K cc own nL d) {x y : Int32} (h : db cc pc (.if_icmp .ge off) off pc' tgt) (kt : y ≤ x → Vw K nL ws k n lv tgt st) (kf : ¬ y ≤ x → Vw K nL ws k n lv pc' st) : Vw K nL ws k n lv pc (.int y :: .int x :: st) := by
  intro H locs ls hP hD hS hl
  obtain ⟨h1, h2, h3⟩ := h; subst h2
  exact lv_icmp_ge o.1 o.2.1 h1 h3 (fun c => kt c H locs ls hP hD hS hl) (fun c => kf c H locs ls hP hD hS hl)
theorem y_if_gt (o : Y K cc own nL d) {x : Int32} (h : db cc pc (.ifCond .gt off) off pc' tgt) (kt : 0 < x → Vw K nL ws k n lv tgt st) (kf : ¬ 0 < x → Vw K nL ws k n lv pc' st) : Vw K nL ws k n lv pc (.int x :: st) := by
  intro H locs ls hP hD hS hl
  obtain ⟨h1, h2, h3⟩ := h; subst h2
  exact lv_if_gt o.1 o.2.1 h1 h3 (fun c => kt c H locs ls hP hD hS hl) (fun c => kf c H locs ls hP hD hS hl)
theorem y_icmp_gt (o : Y K cc own nL d) {x y : Int32} (h : db cc pc (.if_icmp .gt off) off pc' tgt) (kt : y < x → Vw K nL ws k n lv tgt st) (kf : ¬ y < x → Vw K nL ws k n lv pc' st) : Vw K nL ws k n lv pc (.int y :: .int x :: st) := by
  intro H locs ls hP hD hS hl
  obtain ⟨h1, h2, h3⟩ := h; subst h2
  exact lv_icmp_gt o.1 o.2.1 h1 h3 (fun c => kt c H locs ls hP hD hS hl) (fun c => kf c H locs ls hP hD hS hl)
theorem y_if_le (o : Y K cc own nL d) {x : Int32} (h : db cc pc (.ifCond .le off) off pc' tgt) (kt : x ≤ 0 → Vw K nL ws k n lv tgt st) (kf : ¬ x ≤ 0 → Vw K nL ws k n lv pc' st) : Vw K nL ws k n lv pc (.int x :: st) := by
  intro H locs ls hP hD hS hl
  obtain ⟨h1, h2, h3⟩ := h; subst h2
  exact lv_if_le o.1 o.2.1 h1 h3 (fun c => kt c H locs ls hP hD hS hl) (fun c => kf c H locs ls hP hD hS hl)
theorem y_icmp_le (o : Y K cc own nL d) {x y : Int32} (h : db cc pc (.if_icmp .le off) off pc' tgt) (kt : x ≤ y → Vw K nL ws k n lv tgt st) (kf : ¬ x ≤ y → Vw K nL ws k n lv pc' st) : Vw K nL ws k n lv pc (.int y :: .int x :: st) := by
  intro H locs ls hP hD hS hl
  obtain ⟨h1, h2, h3⟩ := h; subst h2
  exact lv_icmp_le o.1 o.2.1 h1 h3 (fun c => kt c H locs ls hP hD hS hl) (fun c => kf c H locs ls hP hD hS hl)
/-- a switch by its table: at the value v it goes to tgt; outside lo .. hi to tgt -/
def dt (cc : ByteArray) (pc : Nat) (v : Int) (tgt : Nat) : Prop := ∃ (dflt lo hi : Int) (offs : Array Int) (len : Nat) (off : Int), decode cc pc = .ok (.tableswitch dflt lo hi offs, len) ∧ ¬ v < lo ∧ ¬ hi < v ∧ offs[(v - lo).toNat]? = some off ∧ (pc : Int) + off = (tgt : Int)
def dtd (cc : ByteArray) (pc : Nat) (lo hi : Int) (tgt : Nat) : Prop := ∃ (dflt : Int) (offs : Array Int) (len : Nat), decode cc pc = .ok (.tableswitch dflt lo hi offs, len) ∧ (pc : Int) + dflt = (tgt : Int)
theorem y_sw (o : Y K cc own nL d) {x : Int32} {v : Int} (h : dt cc pc v tgt) (hx : x.toInt = v) (kk : Vw K nL ws k n lv tgt st) : Vw K nL ws k n lv pc (.int x :: st) := by
  intro H locs ls hP hD hS hl
  obtain ⟨dflt, lo, hi, offs, len, off, h1, h2, h3, h4, h5⟩ := h
  subst hx
  exact lv_tableIn o.1 o.2.1 h1 h2 h3 h4 h5 (kk H locs ls hP hD hS hl)
theorem y_swd (o : Y K cc own nL d) {x : Int32} {lo hi : Int} (h : dtd cc pc lo hi tgt) (hx : x.toInt < lo ∨ hi < x.toInt) (kk : Vw K nL ws k n lv tgt st) : Vw K nL ws k n lv pc (.int x :: st) := by
  intro H locs ls hP hD hS hl
  obtain ⟨dflt, offs, len, h1, h2⟩ := h
  exact lv_tableOut o.1 o.2.1 h1 hx h2 (kk H locs ls hP hD hS hl)
/-- the link of a field: the class' own, or a nest mate's -/
def y_link (own : String) (idx : Nat) (ref name desc : String) : Prop := Cond.fieldLink own idx ref name desc ∈ lw_all ∨ ∃ host, Cond.fieldLinkNest own idx ref name desc host ∈ lw_tbl
/-- pool entry idx of class own is the field k, of kind f, of cell q -/
def fG (G : List GC) (own : String) (idx q k : Nat) (f : FK) : Prop := ∃ (o : Nat × List FK) (C : String) (T : u_T) (N : Nat) (ref : String), G[q]? = some (.inl o) ∧ o.2[k]? = some f ∧ y_cl[o.1]? = some (C, T, N) ∧ k < N ∧ (∀ w ∈ u_ws C T N, w ∈ lw_all) ∧ y_link own idx ref (T k).2.1 (T k).2.2.1 ∧ (ref = (T k).1 ∨ Cond.sameField ref (T k).1 (T k).2.1 (T k).2.2.1 ∈ lw_all)
/-- .. and it may be written: its type is ty -/
def fP (G : List GC) (own : String) (idx q k i : Nat) (f : FK) (ty : FieldType) : Prop := g_uq G i q k = true ∧ (f = .inl i ∨ f = .inr (.inr i)) ∧ ∃ (o : Nat × List FK) (C : String) (T : u_T) (N : Nat) (ref : String) (ty0 : Nat → FieldType), G[q]? = some (.inl o) ∧ o.2[k]? = some f ∧ y_cl[o.1]? = some (C, T, N) ∧ k < N ∧ (∀ w ∈ u_ws C T N, w ∈ lw_all) ∧ y_link own idx ref (T k).2.1 (T k).2.2.1 ∧ (ref = (T k).1 ∨ Cond.sameField ref (T k).1 (T k).2.1 (T k).2.2.1 ∈ lw_all) ∧ (∀ k, k < N → parseFieldDescriptor (T k).2.2.1 = some (ty0 k)) ∧ (∀ a, a < N → ∀ b, b < N → a ≠ b → (T a).2.1 ≠ (T b).2.1) ∧ (T k).2.2.2 = false ∧ ty0 k = ty
variable {G : List GC} {h : Nat → Nat} {S : XS} {ex : va_W}
theorem y_same (o : Y K cc own nL d) {ref O f ds : String} (hs : ref = O ∨ Cond.sameField ref O f ds ∈ lw_all) : ∀ x, (ks K).fieldFound? O f ds = some x → (ks K).fieldFound? ref f ds = some x := by
  intro x hx
  rcases hs with e | e
  · rw [e]; exact hx
  · exact u_same (o.2.2.2.2.1 _ e) x hx
theorem y_getw (o : Y K cc own nL d) {q k0 idx : Nat} {f : FK} (F : fG G own idx q k0 f) (dd : dk cc pc (.getfield idx) 3 pc') (kk : Vw K nL (g_W (kd K).1 G h S ++ ex) k n lv pc' (g_fv h S f :: st)) : Vw K nL (g_W (kd K).1 G h S ++ ex) k n lv pc (.ref (h q) :: st) := by
  intro H locs ls hP hD hS hl
  obtain ⟨h1, h3⟩ := dd; subst h3
  obtain ⟨ob, C, T, N, ref, g1, g2, g3, g4, g5, g6, g7⟩ := F
  have he : (g_W (kd K).1 G h S ++ ex)[q]? = some (h q, .inr (ob.1, ob.2.map (g_fv h S))) := g_get g1 ex
  have hv : (ob.2.map (g_fv h S))[k0]? = some (g_fv h S f) := by simp [g2]
  rcases g6 with g6 | ⟨host, g6⟩
  · exact va_get o.1 o.2.1 o.2.2.2.2.1 g5 o.2.2.2.1 o.2.2.2.2.2.1 hP q he g3 k0 g4 (o.2.2.2.2.1 _ g6) (y_same o g7) hv h1 (kk H locs ls hP hD hS hl)
  · exact va_getN o.1 o.2.1 o.2.2.2.2.1 g5 o.2.2.2.1 o.2.2.2.2.2.1 hP q he g3 k0 g4 (va_Nw.use rfl (o.2.2.2.2.2.2.1.1 _ g6 rfl)) (y_same o g7) hv h1 (kk H locs ls hP hD hS hl)
theorem y_get (o : Y K cc own nL d) {q k0 i idx : Nat} (F : fG G own idx q k0 (.inl i)) (dd : dk cc pc (.getfield idx) 3 pc') (kk : Vw K nL (g_W (kd K).1 G h S ++ ex) k n lv pc' (.int (S.1 i) :: st)) : Vw K nL (g_W (kd K).1 G h S ++ ex) k n lv pc (.ref (h q) :: st) := y_getw o F dd kk
theorem y_getr (o : Y K cc own nL d) {q k0 i idx : Nat} (F : fG G own idx q k0 (.inr (.inl i))) (dd : dk cc pc (.getfield idx) 3 pc') (kk : Vw K nL (g_W (kd K).1 G h S ++ ex) k n lv pc' (.ref (h i) :: st)) : Vw K nL (g_W (kd K).1 G h S ++ ex) k n lv pc (.ref (h q) :: st) := y_getw o F dd kk
theorem y_gets (o : Y K cc own nL d) {q k0 i idx : Nat} (F : fG G own idx q k0 (.inr (.inr i))) (dd : dk cc pc (.getfield idx) 3 pc') (kk : Vw K nL (g_W (kd K).1 G h S ++ ex) k n lv pc' (va_rf (g_dv h (S.1 i)) :: st)) : Vw K nL (g_W (kd K).1 G h S ++ ex) k n lv pc (.ref (h q) :: st) := y_getw o F dd kk
theorem y_putw (o : Y K cc own nL d) {q k0 i idx : Nat} {f : FK} {ty : FieldType} {v : Int32} (F : fP G own idx q k0 i f ty) (hn : narrow ty (g_fv h (xs S i v) f) = g_fv h (xs S i v) f) (hfit : fits ty (g_fv h (xs S i v) f) = true) (dd : dk cc pc (.putfield idx) 3 pc') (kk : Vw K nL (g_W (kd K).1 G h (xs S i v) ++ ex) k n lv pc' st) : Vw K nL (g_W (kd K).1 G h S ++ ex) k n lv pc (g_fv h (xs S i v) f :: .ref (h q) :: st) := by
  intro H locs ls hP hD hS hl
  obtain ⟨h1, h3⟩ := dd; subst h3
  obtain ⟨hu, hfi, ob, C, T, N, ref, ty0, g1, g2, g3, g4, g5, g6, g7, g8, g9, g10, g11⟩ := F
  have he : (g_W (kd K).1 G h S ++ ex)[q]? = some (h q, .inr (ob.1, ob.2.map (g_fv h S))) := g_get g1 ex
  have hlen : k0 < (ob.2.map (g_fv h S)).length := by simpa using (List.getElem?_eq_some_iff.mp g2).1
  have hty : parseFieldDescriptor (T k0).2.2.1 = some ty := by rw [← g11]; exact g8 k0 g4
  have ew := g_put (dA := (kd K).1) (h := h) (S := S) (v := v) hu g1 g2 hfi ex
  rcases g6 with g6 | ⟨host, g6⟩
  · exact va_put o.1 o.2.1 o.2.2.2.2.1 g5 ty0 g8 g9 o.2.2.2.1 o.2.2.2.2.2.1 hP hD hS q he g3 k0 g4 (o.2.2.2.2.1 _ g6) (y_same o g7) g10 hty hn hfit hlen h1 (fun H1 locs1 hP1 hD1 hS1 => kk H1 locs1 ls (ew ▸ hP1) (ew ▸ hD1) hS1 hl)
  · exact va_putN o.1 o.2.1 o.2.2.2.2.1 g5 ty0 g8 g9 o.2.2.2.1 o.2.2.2.2.2.1 hP hD hS q he g3 k0 g4 (va_Nw.use rfl (o.2.2.2.2.2.2.1.1 _ g6 rfl)) (y_same o g7) g10 hty hn hfit hlen h1 (fun H1 locs1 hP1 hD1 hS1 => kk H1 locs1 ls (ew ▸ hP1) (ew ▸ hD1) hS1 hl)
theorem y_xs (S : XS) (i : Nat) (v : Int32) : (xs S i v).1 i = v := by simp [xs]
theorem y_put (o : Y K cc own nL d) {q k0 i idx : Nat} {v : Int32} (F : fP G own idx q k0 i (.inl i) .int) (dd : dk cc pc (.putfield idx) 3 pc') (kk : Vw K nL (g_W (kd K).1 G h (xs S i v) ++ ex) k n lv pc' st) : Vw K nL (g_W (kd K).1 G h S ++ ex) k n lv pc (.int v :: .ref (h q) :: st) := by
  have := y_putw (v := v) (h := h) (S := S) (ex := ex) (k := k) (n := n) (lv := lv) (st := st) o F rfl rfl dd kk
  simpa [g_fv, y_xs] using this
theorem y_putz (o : Y K cc own nL d) {q k0 i idx : Nat} {v : Int32} (F : fP G own idx q k0 i (.inl i) .boolean) (hv : v = 0 ∨ v = 1) (dd : dk cc pc (.putfield idx) 3 pc') (kk : Vw K nL (g_W (kd K).1 G h (xs S i v) ++ ex) k n lv pc' st) : Vw K nL (g_W (kd K).1 G h S ++ ex) k n lv pc (.int v :: .ref (h q) :: st) := by
  have e : g_fv h (xs S i v) (.inl i) = .int v := by simp [g_fv, y_xs]
  have := y_putw (v := v) (h := h) (S := S) (ex := ex) (k := k) (n := n) (lv := lv) (st := st) o F (by rw [e]; rcases hv with rfl | rfl <;> rfl) (by rw [e]; rcases hv with rfl | rfl <;> rfl) dd kk
  rwa [e] at this
/-- array j, of length len, is cell q -/
def aG (G : List GC) (q j len : Nat) : Prop := G[q]? = some (.inr (j, len)) ∧ g_ua G j q = true
theorem y_iald (o : Y K cc own nL d) {q j len : Nat} {i : Int32} (F : aG G q j len) (dd : dk cc pc .iaload 1 pc') (hin : vp_in i len) (kk : Vw K nL (g_W (kd K).1 G h S ++ ex) k n lv pc' (.int (S.2 j i.toNatClampNeg) :: st)) : Vw K nL (g_W (kd K).1 G h S ++ ex) k n lv pc (.int i :: .ref (h q) :: st) := by
  intro H locs ls hP hD hS hl
  obtain ⟨h1, h3⟩ := dd; subst h3
  have he : (g_W (kd K).1 G h S ++ ex)[q]? = some (h q, .inl ((kd K).1, len, .inl (S.2 j))) := g_get F.1 ex
  exact va_iald o.1 o.2.1 o.2.2.2.2.2.1 hP q 0 he rfl hin h1 (kk H locs ls hP hD hS hl)
theorem y_iast (o : Y K cc own nL d) {q j len : Nat} {i v : Int32} (F : aG G q j len) (dd : dk cc pc .iastore 1 pc') (hin : vp_in i len) (kk : Vw K nL (g_W (kd K).1 G h (xa S j i.toNatClampNeg v) ++ ex) k n lv pc' st) : Vw K nL (g_W (kd K).1 G h S ++ ex) k n lv pc (.int v :: .int i :: .ref (h q) :: st) := by
  intro H locs ls hP hD hS hl
  obtain ⟨h1, h3⟩ := dd; subst h3
  have he : (g_W (kd K).1 G h S ++ ex)[q]? = some (h q, .inl ((kd K).1, len, .inl (S.2 j))) := g_get F.1 ex
  have ew := g_putA (dA := (kd K).1) (h := h) (S := S) (i := i.toNatClampNeg) (v := v) F.2 F.1 ex
  exact va_iast o.1 o.2.1 o.2.2.2.2.2.1 hP hD hS q 0 he rfl hin h1 (fun H1 locs1 hP1 hD1 hS1 => kk H1 locs1 ls (ew ▸ hP1) (ew ▸ hD1) hS1 hl)
end YR
/-! contracts -/
def y_rm (d mc ms : Nat) : Room := { frames := d, cells := mc, slots := ms, locals := 64 * d }
/-- what a contract's start asks of the state, beside its arguments -/
def y_Pc (dd : ClassId × ClassId × ClassId) (D : va_G) (sz : Nat) (ws : va_W) (U : State) : Prop := U.heap.size = sz ∧ va_P D y_cl ws U.heap ∧ va_K D y_cl (y_tys dd) U ∧ va_D (fun _ => True) ws ∧ yN U ∧ yZ (va_A ws sz) U U.heap
def y_Qc (D : va_G) (A : Nat → Prop) (post : Option Value → va_W → Prop) : Array Value → State → Outcome → State → Prop := fun _ st oc t => (∃ (v : Option Value) (w : va_W), oc = .returned v ∧ post v w ∧ va_P D y_cl w t.heap ∧ va_D A w) ∧ va_F A st t
/-- a contract: from the world ws, with the arguments As, the method returns, and 'post answer world' -/
def Cw (dd : ClassId × ClassId × ClassId) (y : MethodName) (cc : ByteArray) (nL : Nat) (ret : Option FieldType) (d mc ms : Nat) (As : List Value) (ws : va_W) (post : Option Value → va_W → Prop) : Prop :=
  ∀ (l : Launch) (D : va_G) (sz : Nat), Met l y (ws_ y cc nL ret) (y_rm d mc ms) (va_Pc As (y_Pc dd D sz ws)) (y_Qc D (va_A ws sz) post) mc ms (va_A ws sz)
/-- .. exactly: the answer v0, the state S' -/
def Cx (dd : ClassId × ClassId × ClassId) (y : MethodName) (cc : ByteArray) (nL : Nat) (ret : Option FieldType) (d : Nat) (G : List GC) (As : List Value) (h : Nat → Nat) (ex : va_W) (S : XS) (v0 : Option Value) (S' : XS) : Prop :=
  Cw dd y cc nL ret d 0 0 As (g_W dd.1 G h S ++ ex) (fun v w => v = v0 ∧ w = g_W dd.1 G h S' ++ ex)
/-- what a return owes -/
def YR (K : YK) (ret : Option FieldType) (mc ms : Nat) (post : Option Value → va_W → Prop) : Prop := (kM K).sig.returnType = ret ∧ kQ K = MQ (kb K) (y_Qc (kD K) (kA K) post) (ka K) (ks K) mc ms (kA K)
theorem yZ.moved {A : Nat → Prop} {u U : State} {H : Heap} (hvm : u.vm.Alike U.vm) (h : yZ A u H) : yZ A U H := by
  obtain ⟨t, h1, h2⟩ := h
  exact ⟨t, h1.moved hvm, h2.moved hvm⟩
theorem Cw.intro {dd : ClassId × ClassId × ClassId} {y : MethodName} {cc : ByteArray} {nL : Nat} {ret : Option FieldType} {d mc ms : Nat} {As : List Value} {ws : va_W} {post : Option Value → va_W → Prop} (hy : plainName y.cls = true) (hc : ∀ v ∈ As, v.category = 1) (hn : As.length ≤ nL)
    (body : ∀ K : YK, kd K = dd → Y K cc y.cls nL d → YR K ret mc ms post → mc ≤ (kR K).cells ∧ ms ≤ (kR K).slots → Vw K nL ws 0 0 As 0 []) : Cw dd y cc nL ret d mc ms As ws post := by
  intro l D sz
  refine Met.ofW (cc := cc) (maxL := nL) (ret := ret) hy rfl ?_
  intro p e s m args below meth c s₁ B hml hv
  obtain ⟨rfl, hsz, hP, hK, hD0, hN, hZ⟩ := hv
  subst hsz
  have hts := atoms_spec (ws := ws_ y cc nL ret) B.pre
  have hts : ∀ w ∈ lw_all, w.before As.toArray s = true := fun w h => hts w (List.mem_cons_of_mem _ h)
  have hown : s.vm.findClass y.cls = some m.cls := findClass_of_methodNamed B.named
  have hl := lv_entry As (n := nL) (by rw [y_sl_len As hc]; exact hn)
  rw [lg_entry_eq]
  generalize (lg_sl As ++ List.replicate (nL - (lg_sl As).length) Slot.unset).toArray = ls at hl ⊢
  have hl' : y_ls ls nL As := ⟨hl.1, hl.2.1, hc, fun k v hk => by have := hl.2.2 _ (y_args_get As 0 hc k v hk); simpa using this⟩
  have hb := body (p, l, e, (headSpec (ws_ y cc nL ret) (y_rm d mc ms)).room, s, m, As.toArray, below, meth, c, MQ below (y_Qc D (va_A ws s.heap.size) post) As.toArray s mc ms (va_A ws s.heap.size), va_A ws s.heap.size, D, dd) rfl
    ⟨B.exec, B.bytes, hml, hown, hts, hK, hN, fun q hq => Or.inr hq, B.notSynchronized, ⟨Nat.le_refl _, Nat.le_refl _⟩, hZ⟩ ⟨B.returns, rfl⟩ ⟨Nat.le_refl _, Nat.le_refl _⟩
  exact hb s.heap [] ls hP hD0.self va_S.rf hl'
section YC
variable {K : YK} {cc : ByteArray} {own : String} {nL d : Nat} {ws : va_W} {k n : Nat} {lv : List Value} {pc pc' tgt : Nat} {st : List Value} {off : Int} {post : Option Value → va_W → Prop} {mc ms : Nat}
theorem y_qc {H : Heap} {locs : List Loc} {v : Option Value} (hp : post v ws) (hP : va_P (kD K) y_cl ws H) (hD : va_D (kA K) ws) (hS : va_S (kA K) (ks K).heap H locs) (t : State) (ht : t.heap = H) : y_Qc (kD K) (kA K) post (ka K) (ks K) (.returned v) t := ⟨⟨v, ws, rfl, hp, by rw [ht]; exact hP, hD⟩, hS.F ht⟩
theorem y_iret (o : Y K cc own nL d) (r : YR K (some .int) mc ms post) (h : dk cc pc .ireturn 1 pc') {v : Int32} (hp : post (some (.int v)) ws) : Vw K nL ws mc ms lv pc [.int v] := by
  intro H locs ls hP hD hS hl
  show W _ _ _ _ _ _ _ _ _ _ _ _ _ _ (kQ K) _
  rw [r.2]
  exact W.iret o.1 o.2.1 r.1 (fun t ht _ => y_qc hp hP hD hS t ht) hS.2.2 h.1 (hlocks := o.2.2.2.2.2.2.2.2.1)
theorem y_zret (o : Y K cc own nL d) (r : YR K (some .boolean) mc ms post) (h : dk cc pc .ireturn 1 pc') {v : Int32} (hv : v = 0 ∨ v = 1) (hp : post (some (.int v)) ws) : Vw K nL ws mc ms lv pc [.int v] := by
  intro H locs ls hP hD hS hl
  show W _ _ _ _ _ _ _ _ _ _ _ _ _ _ (kQ K) _
  rw [r.2]
  exact W.zret o.1 o.2.1 r.1 (by rcases hv with rfl | rfl <;> rfl) (fun t ht _ => y_qc hp hP hD hS t ht) hS.2.2 h.1 (hlocks := o.2.2.2.2.2.2.2.2.1)
theorem y_vret (o : Y K cc own nL d) (r : YR K none mc ms post) (h : dk cc pc .return_ 1 pc') (hp : post none ws) : Vw K nL ws mc ms lv pc [] := by
  intro H locs ls hP hD hS hl
  show W _ _ _ _ _ _ _ _ _ _ _ _ _ _ (kQ K) _
  rw [r.2]
  exact W.vret o.1 o.2.1 r.1 (fun t ht _ => y_qc hp hP hD hS t ht) hS.2.2 h.1 (hlocks := o.2.2.2.2.2.2.2.2.1)
theorem y_aret (o : Y K cc own nL d) {rt : FieldType} (r : YR K (some rt) mc ms post) (hrt : (∃ n, rt = .object n) ∨ ∃ t, rt = .array t) (h : dk cc pc .areturn 1 pc') {v : Value} (hv : v = .null ∨ ∃ a, v = .ref a) (hp : post (some v) ws) : Vw K nL ws mc ms lv pc [v] := by
  intro H locs ls hP hD hS hl
  show W _ _ _ _ _ _ _ _ _ _ _ _ _ _ (kQ K) _
  rw [r.2]
  exact W.aret o.1 o.2.1 r.1 hrt hv (fun t ht _ => y_qc hp hP hD hS t ht) hS.2.2 h.1 (hlocks := o.2.2.2.2.2.2.2.2.1)
/-- which cells a callee may change: within the caller's -/
theorem y_sub {H : Heap} {locs : List Loc} (hA : ∀ q, (ks K).heap.size ≤ q → kA K q) (hD : va_D (kA K) ws) (hS : va_S (kA K) (ks K).heap H locs) : ∀ q, va_A ws H.size q → kA K q := by
  intro q h
  rcases h with ⟨j, e, h⟩ | h
  · exact hD.2 j _ h
  · exact hA q (Nat.le_trans hS.1 h)
theorem yZ.kept {A A' : Nat → Prop} {U : State} {H0 H : Heap} {locs : List Loc} (h : yZ A U H0) (hS : va_S A H0 H locs) (hn : ∀ q, A' q → A q) : yZ A' U H := by
  obtain ⟨t, ⟨cf, kf, fi, f, a, cell, z1, z2, z3, z4, z5, z6⟩, ⟨cell2, w1, w2, w3, w4, w5, w6, w7⟩⟩ := h
  have ha : a < H0.size := (Array.getElem?_eq_some_iff.mp z5).1
  have ht : t < H0.size := (Array.getElem?_eq_some_iff.mp w1).1
  refine ⟨t, ⟨cf, kf, fi, f, a, cell, z1, z2, z3, z4, ?_, z6.1, z6.2.1, fun q => z6.2.2 (hn a q)⟩, cell2, ?_, w2, w3, w4, w5, w6, fun q => w7 (hn t q)⟩
  · rw [hS.2.1 a ha z6.2.2]; exact z5
  · rw [hS.2.1 t ht w7]; exact w1
/-- the callee's start, out of the caller's state -/
theorem y_pre (o : Y K cc own nL d) {H : Heap} {locs : List Loc} (hP : va_P (kD K) y_cl ws H) (hD : va_D (kA K) ws) (hS : va_S (kA K) (ks K).heap H locs) (U : State) (hU : U.heap = H) (hW : (ks K).WarmedH U.vm) : y_Pc (kd K) (kD K) H.size ws U := by
  refine ⟨by rw [hU], by rw [hU]; exact hP, va_K.moved hW.alike o.2.2.2.2.2.1, hD.weaken (fun _ _ _ _ => trivial), o.2.2.2.2.2.2.1.warm hW, ?_⟩
  rw [hU]
  exact (o.2.2.2.2.2.2.2.2.2.2.kept hS (y_sub o.2.2.2.2.2.2.2.1 hD hS)).moved hW.alike
theorem y_blind {dd : ClassId × ClassId × ClassId} {D : va_G} {sz : Nat} {As : List Value} : FrameBlind (va_Pc As (y_Pc dd D sz ws)) := fun a U g mk q => by
  obtain ⟨q0, q1, qP, qK, qD, qN, qZ⟩ := q
  exact ⟨q0, q1, qP, va_K.moved (u := U) (U := U.calling g mk a) (Vm.Alike.refl U.vm) qK, qD, yN.same (u := U) (U := U.calling g mk a) rfl qN, qZ.moved (u := U) (U := U.calling g mk a) (Vm.Alike.refl U.vm)⟩
/-- behind a call over the whole world -/
theorem y_cont {H : Heap} {locs : List Loc} {ls : Array Slot} {rest st0 : List Value} {a : Array Value} (o : Y K cc own nL d) (hD : va_D (kA K) ws) (hS : va_S (kA K) (ks K).heap H locs) (hl : y_ls ls nL lv)
    (hr : va_Run (kP K) (kL K) (kE K) (kR K) (ks K) (km K) (ka K) (kb K) (kM K) (kc K) H locs k n mc ms (F0 (km K) pc ls st0) rest (y_Qc (kD K) (va_A ws H.size) post a) (va_A ws H.size))
    (kk : ∀ (v : Option Value) (w : va_W), post v w → Vw K nL w (k + mc) (n + ms) lv (pc + 3) (v.toList ++ rest)) : yW K H locs k n (F0 (km K) pc ls st0) := by
  intro T hT X
  obtain ⟨v, st₀, t, T', L, h0, X', hL, e1, e2, ⟨⟨v', w, hv, hp, hP1, hD1⟩, hz, hkp⟩, stp⟩ := hr T hT X
  cases hv
  rw [h0] at hz hkp
  have hsub := y_sub o.2.2.2.2.2.2.2.1 hD hS
  have hS1 : va_S (kA K) (ks K).heap T'.heap (locs ++ L) := ⟨Nat.le_trans hS.1 (by rw [e1]; exact hz), fun q h1 h2 => by rw [e1, hkp q (Nat.lt_of_lt_of_le h1 hS.1) (fun z => h2 (hsub q z))]; exact hS.2.1 q h1 h2, fun q hq => by
      rcases List.mem_append.mp hq with h | h
      · exact hS.2.2 q h
      · exact hsub _ (hL q h)⟩
  obtain ⟨t2, a1, b1⟩ := kk v w hp T'.heap (locs ++ L) ls (by rw [e1]; exact hP1) (hD1.weaken (fun _ q _ h => hsub q.1 h)) hS1 hl T' rfl X'
  exact ⟨t2, stp t2 a1, b1⟩
/-- a call of an object's own method: the pool entry's facts -/
def kV (own : String) (idx : Nat) (C : String) (y : MethodName) (bytes : ByteArray) (nL' : Nat) (ret : Option FieldType) (na : Nat) : Prop := GoodIn lw_all (wsV own idx C y (ws_ y bytes nL' ret)) ∧ (y.cls = C ∧ y.cls ≠ "java/lang/invoke/MethodHandle" ∧ y.cls ≠ "java/lang/invoke/VarHandle" ∧ (parseMethodDescriptor y.desc).map (fun d => d.parameters.length) = some na) ∧ nL' ≤ 40
def kS (own : String) (idx : Nat) (y : MethodName) (bytes : ByteArray) (nL' : Nat) (ret : Option FieldType) (na : Nat) : Prop := GoodIn lw_all (va_wsS own idx y (ws_ y bytes nL' ret)) ∧ (y.cls ≠ "java/lang/invoke/MethodHandle" ∧ y.cls ≠ "java/lang/invoke/VarHandle" ∧ (parseMethodDescriptor y.desc).map (fun d => d.parameters.length) = some na) ∧ nL' ≤ 40
def kI (own : String) (idx : Nat) (y : MethodName) (bytes : ByteArray) (nL' : Nat) (na : Nat) : Prop := Cond.code y bytes nL' none ∈ lw_all ∧ Cond.initialized y.cls ∈ lw_all ∧ Cond.instanceMethod y ∈ lw_all ∧ y.name = "<init>" ∧ (Cond.methodLink own idx y ∈ lw_all ∨ ∃ host, Cond.methodLinkNest own idx y host ∈ lw_tbl) ∧ (y.cls ≠ "java/lang/invoke/MethodHandle" ∧ y.cls ≠ "java/lang/invoke/VarHandle" ∧ (parseMethodDescriptor y.desc).map (fun d => d.parameters.length) = some na) ∧ nL' ≤ 40
/-- class C's object is cell q of the world -/
def y_rc (ws : va_W) (C : String) (b : Nat) : Prop := ∃ (q ci : Nat) (fs : List Value) (T : u_T) (N : Nat), y_cl[ci]? = some (C, T, N) ∧ ws[q]? = some (b, .inr (ci, fs))
theorem y_rm_ok {d' nL' mc ms : Nat} {R : Room} (h1 : d' + 1 ≤ d) (h2 : d ≤ R.frames ∧ 64 * d ≤ R.locals) (h3 : nL' ≤ 40) : (y_rm d' mc ms).frames + 1 ≤ R.frames ∧ 8 + (nL' + 11) + (y_rm d' mc ms).locals ≤ R.locals := by
  simp only [y_rm]
  omega
variable {y : MethodName} {bytes : ByteArray} {nL' d' idx na : Nat} {ret : Option FieldType} {As rest : List Value} {b : Nat} {C : String}
theorem y_callV (o : Y K cc own nL d) (kf : kV own idx C y bytes nL' ret na) (M : Cw (kd K) y bytes nL' ret d' mc ms (.ref b :: As) ws post) (hrc : y_rc ws C b) (hd : d' + 1 ≤ d) (hna : As.length = na) (hst : st = As.reverse ++ .ref b :: rest) (hW : (rest.map fun v => v.category).sum ≤ 8) (hf : k + mc ≤ (kR K).cells ∧ n + ms ≤ (kR K).slots) (h : dk cc pc (.invokevirtual idx) 3 pc')
    (kk : ∀ (v : Option Value) (w : va_W), post v w → Vw K nL w (k + mc) (n + ms) lv pc' (v.toList ++ rest)) : Vw K nL ws k n lv pc st := by
  intro H locs ls hP hD hS hl
  obtain ⟨h1, h3⟩ := h; subst h3; subst hst
  obtain ⟨q, ci, fs, T, N, e1, e2⟩ := hrc
  exact y_cont (lv := lv) o hD hS hl (va_runV ⟨o.1, o.2.1, o.2.2.1, o.2.2.2.1, o.2.2.2.2.1⟩ (M (kL K) (kD K) H.size) (cwV na o.2.2.2.2.1 kf.1 rfl rfl rfl kf.2.1 (y_rm_ok hd o.2.2.2.2.2.2.2.2.2.1 kf.2.2)) ⟨y_blind, va_recv o.2.2.2.2.2.1 hP e1 e2, fun U hU hW => ⟨rfl, y_pre o hP hD hS U hU hW⟩⟩ rfl hna hl.1 rfl (lv_room hW) h1 hf) kk
theorem y_callS (o : Y K cc own nL d) (kf : kS own idx y bytes nL' ret na) (M : Cw (kd K) y bytes nL' ret d' mc ms As ws post) (hd : d' + 1 ≤ d) (hna : As.length = na) (hst : st = As.reverse ++ rest) (hW : (rest.map fun v => v.category).sum ≤ 8) (hf : k + mc ≤ (kR K).cells ∧ n + ms ≤ (kR K).slots) (h : dk cc pc (.invokestatic idx) 3 pc')
    (kk : ∀ (v : Option Value) (w : va_W), post v w → Vw K nL w (k + mc) (n + ms) lv pc' (v.toList ++ rest)) : Vw K nL ws k n lv pc st := by
  intro H locs ls hP hD hS hl
  obtain ⟨h1, h3⟩ := h; subst h3; subst hst
  exact y_cont (lv := lv) o hD hS hl (va_runS ⟨o.1, o.2.1, o.2.2.1, o.2.2.2.1, o.2.2.2.2.1⟩ (M (kL K) (kD K) H.size) (va_cwS na o.2.2.2.2.1 kf.1 rfl rfl rfl kf.2.1 (y_rm_ok hd o.2.2.2.2.2.2.2.2.2.1 kf.2.2)) ⟨y_blind, fun U hU hW => ⟨rfl, y_pre o hP hD hS U hU hW⟩⟩ rfl hna hl.1 rfl (lv_room hW) h1 hf) kk
theorem y_callI (o : Y K cc own nL d) (kf : kI own idx y bytes nL' na) (M : Cw (kd K) y bytes nL' none d' mc ms (.ref b :: As) ws post) (hd : d' + 1 ≤ d) (hna : As.length = na) (hst : st = As.reverse ++ .ref b :: rest) (hW : (rest.map fun v => v.category).sum ≤ 8) (hf : k + mc ≤ (kR K).cells ∧ n + ms ≤ (kR K).slots) (h : dk cc pc (.invokespecial idx) 3 pc')
    (kk : ∀ (v : Option Value) (w : va_W), post v w → Vw K nL w (k + mc) (n + ms) lv pc' (v.toList ++ rest)) : Vw K nL ws k n lv pc st := by
  intro H locs ls hP hD hS hl
  obtain ⟨h1, h3⟩ := h; subst h3; subst hst
  obtain ⟨f1, f2, f3, f4, f5, f6, f7⟩ := kf
  rcases f5 with f5 | ⟨host, f5⟩
  · exact y_cont (lv := lv) o hD hS hl (va_runI ⟨o.1, o.2.1, o.2.2.1, o.2.2.2.1, o.2.2.2.2.1⟩ (M (kL K) (kD K) H.size) (cwI na o.2.2.2.2.1 (lw_meth f1) rfl rfl rfl (o.2.2.2.2.1 _ f2) (o.2.2.2.2.1 _ f5) (o.2.2.2.2.1 _ f3) f4 f6 (y_rm_ok hd o.2.2.2.2.2.2.2.2.2.1 f7)) ⟨y_blind, fun U hU hW => ⟨rfl, y_pre o hP hD hS U hU hW⟩⟩ rfl hna hl.1 rfl (lv_room hW) h1 hf) kk
  · exact y_cont (lv := lv) o hD hS hl (va_runIN ⟨o.1, o.2.1, o.2.2.1, o.2.2.2.1, o.2.2.2.2.1⟩ (M (kL K) (kD K) H.size) ⟨va_cnB na o.2.2.2.2.1 (lw_meth f1) rfl rfl rfl (o.2.2.2.2.2.2.1.1 _ f5 rfl) (o.2.2.2.2.1 _ f2) f6 (y_rm_ok hd o.2.2.2.2.2.2.2.2.2.1 f7), f4, o.2.2.2.2.1 _ f3⟩ ⟨y_blind, fun U hU hW => ⟨rfl, y_pre o hP hD hS U hU hW⟩⟩ rfl hna hl.1 rfl (lv_room hW) h1 hf) kk
variable {G : List GC} {h : Nat → Nat} {S S' : XS} {ex : va_W}
def rG (G : List GC) (q : Nat) (C : String) : Prop := ∃ (o : Nat × List FK) (T : u_T) (N : Nat), G[q]? = some (.inl o) ∧ y_cl[o.1]? = some (C, T, N)
theorem rG.rc {dA : ClassId} {q : Nat} (r : rG G q C) : y_rc (g_W dA G h S ++ ex) C (h q) := by
  obtain ⟨o, T, N, h1, h2⟩ := r
  exact ⟨q, o.1, _, T, N, h2, g_get h1 ex⟩
theorem y_callVi (o : Y K cc own nL d) (kf : kV own idx C y bytes nL' ret na) {q : Nat} (r : rG G q C) (hk : k ≤ (kR K).cells ∧ n ≤ (kR K).slots) {x : Int32} (M : Cx (kd K) y bytes nL' ret d' G (.ref (h q) :: As) h ex S (some (.int x)) S') (hd : d' + 1 ≤ d) (hna : As.length = na) (hst : st = As.reverse ++ .ref (h q) :: rest) (hW : (rest.map fun v => v.category).sum ≤ 8) (hh : dk cc pc (.invokevirtual idx) 3 pc')
    (kk : Vw K nL (g_W (kd K).1 G h S' ++ ex) k n lv pc' (.int x :: rest)) : Vw K nL (g_W (kd K).1 G h S ++ ex) k n lv pc st :=
  y_callV o kf M r.rc hd hna hst hW hk hh (fun v w e => by obtain ⟨rfl, rfl⟩ := e; exact kk)
theorem y_callVv (o : Y K cc own nL d) (kf : kV own idx C y bytes nL' none na) {q : Nat} (r : rG G q C) (hk : k ≤ (kR K).cells ∧ n ≤ (kR K).slots) (M : Cx (kd K) y bytes nL' none d' G (.ref (h q) :: As) h ex S none S') (hd : d' + 1 ≤ d) (hna : As.length = na) (hst : st = As.reverse ++ .ref (h q) :: rest) (hW : (rest.map fun v => v.category).sum ≤ 8) (hh : dk cc pc (.invokevirtual idx) 3 pc')
    (kk : Vw K nL (g_W (kd K).1 G h S' ++ ex) k n lv pc' rest) : Vw K nL (g_W (kd K).1 G h S ++ ex) k n lv pc st :=
  y_callV o kf M r.rc hd hna hst hW hk hh (fun v w e => by obtain ⟨rfl, rfl⟩ := e; exact kk)
theorem y_callSi (o : Y K cc own nL d) (kf : kS own idx y bytes nL' ret na) (hk : k ≤ (kR K).cells ∧ n ≤ (kR K).slots) {x : Int32} (M : Cx (kd K) y bytes nL' ret d' G As h ex S (some (.int x)) S') (hd : d' + 1 ≤ d) (hna : As.length = na) (hst : st = As.reverse ++ rest) (hW : (rest.map fun v => v.category).sum ≤ 8) (hh : dk cc pc (.invokestatic idx) 3 pc')
    (kk : Vw K nL (g_W (kd K).1 G h S' ++ ex) k n lv pc' (.int x :: rest)) : Vw K nL (g_W (kd K).1 G h S ++ ex) k n lv pc st :=
  y_callS o kf M hd hna hst hW hk hh (fun v w e => by obtain ⟨rfl, rfl⟩ := e; exact kk)
end YC
/-- the end of an exact contract -/
def YX (K : YK) (ret : Option FieldType) (G : List GC) (h : Nat → Nat) (ex : va_W) (v0 : Option Value) (S' : XS) : Prop := YR K ret 0 0 (fun v w => v = v0 ∧ w = g_W (kd K).1 G h S' ++ ex)
theorem Cx.intro {dd : ClassId × ClassId × ClassId} {y : MethodName} {cc : ByteArray} {nL : Nat} {ret : Option FieldType} {d : Nat} {G : List GC} {As : List Value} {h : Nat → Nat} {ex : va_W} {S S' : XS} {v0 : Option Value} (hy : plainName y.cls = true) (hc : ∀ v ∈ As, v.category = 1) (hn : As.length ≤ nL)
    (body : ∀ K : YK, Y K cc y.cls nL d → YX K ret G h ex v0 S' → 0 ≤ (kR K).cells ∧ 0 ≤ (kR K).slots → Vw K nL (g_W (kd K).1 G h S ++ ex) 0 0 As 0 []) : Cx dd y cc nL ret d G As h ex S v0 S' := by
  refine Cw.intro hy hc hn (fun K e o r hk => ?_)
  subst e
  exact body K o r hk
section YX
variable {K : YK} {cc : ByteArray} {own : String} {nL d : Nat} {lv : List Value} {pc pc' : Nat} {G : List GC} {h : Nat → Nat} {S S' : XS} {ex : va_W}
theorem x_iret {v x : Int32} (o : Y K cc own nL d) (r : YX K (some .int) G h ex (some (.int x)) S') (hh : dk cc pc .ireturn 1 pc') (e1 : v = x) (e2 : S = S') : Vw K nL (g_W (kd K).1 G h S ++ ex) 0 0 lv pc [.int v] := y_iret o r hh ⟨by rw [e1], by rw [e2]⟩
theorem x_zret {v x : Int32} (o : Y K cc own nL d) (r : YX K (some .boolean) G h ex (some (.int x)) S') (hh : dk cc pc .ireturn 1 pc') (hv : v = 0 ∨ v = 1) (e1 : v = x) (e2 : S = S') : Vw K nL (g_W (kd K).1 G h S ++ ex) 0 0 lv pc [.int v] := y_zret o r hh hv ⟨by rw [e1], by rw [e2]⟩
theorem x_vret (o : Y K cc own nL d) (r : YX K none G h ex none S') (hh : dk cc pc .return_ 1 pc') (e2 : S = S') : Vw K nL (g_W (kd K).1 G h S ++ ex) 0 0 lv pc [] := y_vret o r hh ⟨rfl, by rw [e2]⟩
end YX
