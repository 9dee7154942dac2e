section BridgeJudge
/-- what a row of ints of a kind may hold -/
def b_rng (t : Nat) (x : Int) : Prop := match t with
  | 0 => -2147483648 ≤ x ∧ x ≤ 2147483647
  | 1 => -128 ≤ x ∧ x ≤ 127
  | 2 => 0 ≤ x ∧ x ≤ 1
  | _ => -32768 ≤ x ∧ x ≤ 32767
theorem b_rng_i {t : Nat} {x : Int} (h : b_rng t x) : -2147483648 ≤ x ∧ x ≤ 2147483647 := by
  unfold b_rng at h
  split at h <;> omega
/-- an object as the kit has it -/
def b_en (E : bE) (ad : Nat → Nat) (w : bW) (i : Nat) : va_E := match b_sh i with
  | (0, c, N) => .inr (c, (List.range N).map fun f => b_vl E ad (b_ft c f, w i f))
  | (1, t, N) => .inl (bE_a E t, N, .inl fun j => Int32.ofInt (w i j))
  | (2, t, N) => .inl (bE_a E t, N, .inr (.inl fun j => Int64.ofInt (w i j)))
  | (_, t, N) => .inl (bE_a E t, N, .inr (.inr (.inr (.inr fun j => if j < N then (if w i j < 0 then none else some (ad (w i j).toNat)) else none))))
def b_ws (E : bE) (ad : Nat → Nat) (w : bW) (n : Nat) : va_W := (List.range n).map fun i => (ad i, b_en E ad w i)
/-- an object's places hold what they may -/
def b_wfo (n : Nat) (w : bW) (i : Nat) : Prop := match b_sh i with
  | (0, c, N) => ∀ f : Nat, f < N → b_okv n (b_ft c f, w i f)
  | (1, t, N) => ∀ j : Nat, j < N → b_rng t (w i j)
  | (2, _, N) => ∀ j : Nat, j < N → -9223372036854775808 ≤ w i j ∧ w i j ≤ 9223372036854775807
  | (_, _, N) => ∀ j : Nat, j < N → w i j < n
def b_wf (n : Nat) (w : bW) : Prop := ∀ i : Nat, i < n → b_wfo n w i
def b_tys (a : Nat → ClassId) : List (ClassId × FieldType) := (List.range 7).map fun t => (a t, b_aty t)
/-- the script lies at -1, its length at -2 -/
def b_sc (E : bE) (w : bW) : Prop := w (-2) 0 = bE_L E ∧ ∀ j : Nat, j < bE_L E → w (-1) j = (bE_x E j).toInt
theorem b_sc_of {E : bE} {w w' : bW} (h : b_sc E w) (he : ∀ o x : Int, o < 0 → w' o x = w o x) : b_sc E w' := ⟨by rw [he _ _ (by decide)]; exact h.1, fun j hj => by rw [he _ _ (by decide)]; exact h.2 j hj⟩
/-- the heap holds the world -/
def b_R (E : bE) (ad : Nat → Nat) (n : Nat) (w : bW) (H : Heap) : Prop := va_P (bE_D E) vwCl (b_ws E ad w n) H ∧ va_D (bA E) (b_ws E ad w n) ∧ b_wf n w ∧ n ≤ 255 ∧ b_sc E w ∧ b_fin n w
/-- what was there before the law -/
def b_Ext (E : bE) (U : State) (H : Heap) : Prop :=
  va_X (bE_s E) (bE_L E) (bE_x E) U H ∧ bE_s E < bE_b E ∧ bE_L E ≤ 384 ∧ (bE_l E).stackTraces = false ∧
  vk_S 6 b_len b_byt (bE_k E) (bE_v E) (bA E) U H ∧ (∀ q ∈ b_srs, vk_R q.1 q.2.1 q.2.2.1 (bE_k E q.2.2.2) U) ∧
  va_Z "ContractLedger$Memory" "SIZES" "[B" (.ref (bE_z E)) (bA E) U H ∧ va_T .byte (bE_z E) 12 (fun j => .int (b_siz.getD j 0)) (bA E) U H ∧
  va_Z "java/lang/String" "COMPACT_STRINGS" "Z" (.int 1) (bA E) U H ∧ va_Zq "jdk/internal/util/Preconditions" "SIOOBE_FORMATTER" "Ljava/util/function/BiFunction;" (bA E) U H ∧
  vx_Zq Bundle.tN "UNASSIGNED_STACK" Bundle.steD (bA E) U H ∧ vx_Zq Bundle.tN "SUPPRESSED_SENTINEL" Bundle.listD (bA E) U H ∧
  (∀ q ∈ b_nwM, va_Nw (.methodLinkNest q.1 q.2.1 q.2.2.1 q.2.2.2) U) ∧ (∀ q ∈ b_nwD, va_Nw (.declares q) U) ∧ (∀ q ∈ b_nwC, va_Nw (.castable q.1 q.2) U) ∧
  va_AO "ContractLedger$Content" U ∧ va_AO "ContractLedger$Receipt" U
def b_G (E : bE) (U : State) (H : Heap) : Prop := va_K (bE_D E) vwCl (b_tys (bE_a E)) U ∧ b_Ext E U H ∧ bE_b E ≤ H.size
theorem b_G.kept {E : bE} {U : State} {H H1 : Heap} (h : b_G E U H) (hq : ∀ a : Nat, a < bE_b E → H1[a]? = H[a]?) (hz : bE_b E ≤ H1.size) : b_G E U H1 := by
  obtain ⟨hK, ⟨e1, e2, e3, e4, e5, e6, e7, e8, e9, e10, e11, e12, e13⟩, hb⟩ := h
  have hq' : ∀ a : Nat, a < H.size → ¬ bA E a → H1[a]? = H[a]? := fun a _ hn => hq a (by unfold bA at hn; omega)
  exact ⟨hK, ⟨e1.kept (hq _ e2), e2, e3, e4, e5.kept hq', e6, e7.kept hq', e8.kept hq', e9.kept hq', e10.kept hq', e11.kept hq', e12.kept hq', e13⟩, hz⟩
theorem b_G.down {E : bE} {s U : State} {H : Heap} (h : b_G E s H) (hW : s.WarmedH U.vm) : b_G E U H := by
  obtain ⟨hK, ⟨e1, e2, e3, e4, e5, e6, e7, e8, e9, e10, e11, e12, e13, e14, e15, e16, e17⟩, hb⟩ := h
  have ha := hW.alike
  exact ⟨va_K.moved ha hK, ⟨e1.moved ha, e2, e3, e4, e5.moved ha, fun q hq => (e6 q hq).warm hW, e7.moved ha, e8.moved ha, e9.moved ha, e10.moved ha, e11.moved ha, e12.moved ha, fun q hq => (e13 q hq).warmM hW, fun q hq => (e14 q hq).warmD hW, fun q hq => (e15 q hq).warmC hW, e16.moved ha, e17.moved ha⟩, hb⟩
theorem b_G.same {E : bE} {s U : State} {H : Heap} (h : b_G E s H) (hv : U.vm = s.vm) : b_G E U H := by
  obtain ⟨hK, ⟨e1, e2, e3, e4, e5, e6, e7, e8, e9, e10, e11, e12, e13, e14, e15, e16, e17⟩, hb⟩ := h
  have ha : s.vm.Alike U.vm := by rw [hv]; exact Vm.Alike.refl _
  refine ⟨va_K.moved ha hK, ⟨e1.moved ha, e2, e3, e4, e5.moved ha, fun q hq => vk_R.same hv (e6 q hq), e7.moved ha, e8.moved ha, e9.moved ha, e10.moved ha, e11.moved ha, e12.moved ha, fun q hq => va_Nw.same rfl hv.symm (e13 q hq), fun q hq => va_Nw.same rfl hv.symm (e14 q hq), fun q hq => va_Nw.same rfl hv.symm (e15 q hq), e16.moved ha, e17.moved ha⟩, hb⟩
/-- room for d frames -/
def b_rm (d mc ms : Nat) : Room := { frames := d, cells := mc, slots := ms, locals := 64 * d }
def b_rtt (r : Option FieldType) : Nat := match r with
  | none => 9
  | some .long => 1
  | some (.object _) => 2
  | some (.array _) => 2
  | some _ => 0
def b_rv (M : bM) (E : bE) (ad : Nat → Nat) (v : Int) : Option Value := match M.2.2.2.1 with
  | none => none
  | some _ => some (b_vl E ad (b_rtt M.2.2.2.1, v))
/-- the end of a method -/
def b_Qc (E : bE) (ad : Nat → Nat) (n : Nat) (M : bM) (Q : Int → Nat → bW → Prop) : Array Value → State → Outcome → State → Prop := fun _ st o t =>
  ∃ (v : Int) (n' : Nat) (w' : bW) (ad' : Nat → Nat), o = .returned (b_rv M E ad' v) ∧ (∀ i, i < n → ad' i = ad i) ∧ n ≤ n' ∧ b_R E ad' n' w' t.heap ∧ va_F (bA E) st t ∧ b_okv n' (b_rtt M.2.2.2.1, v) ∧ Q v n' w'
def b_XC (E : bE) (ad : Nat → Nat) (n : Nat) (X : String → Nat → bW → Prop) : String → State → State → Prop := fun C st t =>
  ∃ (n' : Nat) (w' : bW) (ad' : Nat → Nat), (∀ i, i < n → ad' i = ad i) ∧ n ≤ n' ∧ b_R E ad' n' w' t.heap ∧ va_F (bA E) st t ∧ X C n' w'
def b_wsl (M : bM) : List Cond := match M.2.2.2.2 with
  | [] => ws_ M.1 M.2.1 M.2.2.1 M.2.2.2.1
  | hh => wsW_ M.1 M.2.1 M.2.2.1 M.2.2.2.1 hh
/-- a call of M in the world w: it returns with Q, or throws with X; at most d frames deep, mc objects of ms places are made -/
def b_C (d mc ms : Nat) (M : bM) (args : List bV) (n : Nat) (w : bW) (Q : Int → Nat → bW → Prop) (X : String → Nat → bW → Prop) : Prop :=
  ∀ (E : bE) (ad : Nat → Nat), (∀ v ∈ args, b_okv n v) → vx_Met (bE_l E) M.1 (b_wsl M) (b_rm d mc ms) (va_Pc (args.map (b_vl E ad)) (fun U => b_G E U U.heap ∧ b_R E ad n w U.heap)) (b_Qc E ad n M Q) (b_XC E ad n X) mc ms (bA E)
/-- what is fixed while a method runs -/
def b_Cx (M : bM) (p : Program) (s : State) (m : MethodId) (args : Array Value) (meth : Method) (c : Code) : Prop :=
  p.tables.exec = Jvm.exec ∧ c.code = M.2.1 ∧ meth.sig.returnType = M.2.2.2.1 ∧ c.maxLocals = M.2.2.1 ∧ s.vm.findClass M.1.cls = some m.cls ∧ (∀ w ∈ lw_all, w.before args s = true) ∧ meth.locks = false ∧ c.exceptionTable.toList = tableOf M.2.2.2.2 ∧ meth.name = M.1.name
/-- the static part of a walk: depth, cells, slots, method, objects at the start, ends -/
abbrev bZ : Type := Nat × Nat × Nat × bM × Nat × (Int → Nat → bW → Prop) × (String → Nat → bW → Prop)
abbrev bZ_M (Z : bZ) : bM := Z.2.2.2.1
/-- M stands at pc with locals ls, stack st in the world w of n objects; u cells of v slots are used -/
def b_X (Z : bZ) (n u v pc : Nat) (ls st : List bV) (w : bW) : Prop :=
  ∀ (E : bE) (p : Program) (e : Env) (s : State) (m : MethodId) (args : Array Value) (below : List Frame) (meth : Method) (c : Code) (H : Heap) (locs : List Loc) (ad0 ad : Nat → Nat) (lsA : Array Slot),
    b_Cx (bZ_M Z) p s m args meth c → b_G E s H → bE_b E ≤ s.heap.size → (∀ i, i < Z.2.2.2.2.1 → ad i = ad0 i) → Z.2.2.2.2.1 ≤ n → b_R E ad n w H → va_S (bA E) s.heap H locs →
    lv_has lsA (bZ_M Z).2.2.1 (b_lvs E ad 0 ls) → (∀ x ∈ ls, b_okv n x) → (∀ x ∈ st, b_okv n x) →
    W p (bE_l E) e (b_rm Z.1 Z.2.1 Z.2.2.1) s m args below meth c H locs u v (vx_MQ below (b_Qc E ad0 Z.2.2.2.2.1 (bZ_M Z) Z.2.2.2.2.2.1) (b_XC E ad0 Z.2.2.2.2.1 Z.2.2.2.2.2.2) args s Z.2.1 Z.2.2.1 (bA E)) (F0 m pc lsA (st.map (b_vl E ad)))
/-- a step that changes pc and stack alone -/
theorem b_stk {Z : bZ} {n u v pc pc' : Nat} {ls st st' : List bV} {w : bW}
    (hok : (∀ x ∈ st, b_okv n x) → ∀ x ∈ st', b_okv n x)
    (h : ∀ (E : bE) (p : Program) (e : Env) (R : Room) (s : State) (m : MethodId) (args : Array Value) (below : List Frame) (meth : Method) (c : Code) (H : Heap) (locs : List Loc) (Q : State → Prop) (ad : Nat → Nat) (lsA : Array Slot), p.tables.exec = Jvm.exec → c.code = (bZ_M Z).2.1 → s.vm.findClass (bZ_M Z).1.cls = some m.cls → (∀ w ∈ lw_all, w.before args s = true) → lv_has lsA (bZ_M Z).2.2.1 (b_lvs E ad 0 ls) → (∀ x ∈ st, b_okv n x) → W p (bE_l E) e R s m args below meth c H locs u v Q (F0 m pc' lsA (st'.map (b_vl E ad))) → W p (bE_l E) e R s m args below meth c H locs u v Q (F0 m pc lsA (st.map (b_vl E ad))))
    (k : b_X Z n u v pc' ls st' w) : b_X Z n u v pc ls st w := by
  intro E p e s m args below meth c H locs ad0 ad lsA hC hG hb ha0 hn hR hS hl hls hst
  exact h E p e _ s m args below meth c H locs _ ad lsA hC.1 hC.2.1 hC.2.2.2.2.1 hC.2.2.2.2.2.1 hl hst (k E p e s m args below meth c H locs ad0 ad lsA hC hG hb ha0 hn hR hS hl hls (hok hst))
end BridgeJudge
