section BridgeCall
variable {Z : bZ} {n u v pc q : Nat} {ls st : List bV} {w : bW}
/-- locals at the entry -/
def b_ent : List bV → Nat → List bV
  | [], k => List.replicate k (9, 0)
  | x :: r, k => match x.1 with
    | 1 => x :: (9, 0) :: b_ent r (k - 2)
    | _ => x :: b_ent r (k - 1)
theorem b_lvs_rep (E : bE) (ad : Nat → Nat) (k i : Nat) : b_lvs E ad i (List.replicate k (9, 0)) = [] := by
  induction k generalizing i with
  | zero => rfl
  | succ k ih => rw [List.replicate_succ, b_lvs, if_pos rfl, ih]
theorem b_lvs_ent (E : bE) (ad : Nat → Nat) : ∀ (args : List bV) (k i : Nat), (∀ x ∈ args, x.1 ≠ 9) → b_lvs E ad i (b_ent args k) = lv_args i (args.map (b_vl E ad)) := by
  intro args
  induction args with
  | nil => intro k i _; rw [b_ent, b_lvs_rep]; rfl
  | cons x r ih =>
    intro k i h
    have hr : ∀ y ∈ r, y.1 ≠ 9 := fun y hy => h y (List.mem_cons_of_mem _ hy)
    have h9 := h x List.mem_cons_self
    rw [b_ent]
    split
    · rename_i h1
      rw [b_lvs, if_neg h9, b_lvs, if_pos rfl, ih _ _ hr, List.map_cons, lv_args, if_pos (b_cat2 E ad h1)]
    · rename_i h1
      rw [b_lvs, if_neg h9, ih _ _ hr, List.map_cons, lv_args, if_neg (by rw [b_cat1 E ad (b_beq1 h1)]; decide)]
theorem b_ok_ent {n : Nat} : ∀ (args : List bV) (k : Nat), (∀ x ∈ args, b_okv n x) → ∀ x ∈ b_ent args k, b_okv n x := by
  intro args
  induction args with
  | nil =>
    intro k _ x hx
    rw [b_ent] at hx
    rw [(List.mem_replicate.mp hx).2]
    exact b_ok9
  | cons y r ih =>
    intro k h x hx
    have hr : ∀ y ∈ r, b_okv n y := fun y hy => h y (List.mem_cons_of_mem _ hy)
    rw [b_ent] at hx
    split at hx
    · rcases List.mem_cons.mp hx with e | e
      · rw [e]; exact h y List.mem_cons_self
      · rcases List.mem_cons.mp e with e | e
        · rw [e]; exact b_ok9
        · exact ih _ hr x e
    · rcases List.mem_cons.mp hx with e | e
      · rw [e]; exact h y List.mem_cons_self
      · exact ih _ hr x e
/-- how many words the arguments take -/
def b_wds : List bV → Nat
  | [] => 0
  | x :: r => (match x.1 with
    | 1 => 2
    | _ => 1) + b_wds r
theorem b_wds_len (E : bE) (ad : Nat → Nat) : ∀ (args : List bV), (lg_sl (args.map (b_vl E ad))).length = b_wds args := by
  intro args
  induction args with
  | nil => rfl
  | cons x r ih =>
    have hc : ∀ (a : Value) (l : List Value), (lg_sl (a :: l)).length = (if a.category = 2 then 2 else 1) + (lg_sl l).length := by
      intro a l
      have : lg_sl (a :: l) = (if a.category = 2 then [Slot.val a, Slot.second] else [Slot.val a]) ++ lg_sl l := by simp [lg_sl]
      rw [this, List.length_append]
      split <;> rfl
    rw [b_wds, List.map_cons, hc, ih]
    by_cases h1 : x.1 = 1
    · rw [if_pos (b_cat2 E ad h1), h1]
      rfl
    · rw [if_neg (by rw [b_cat1 E ad (b_beq1 h1)]; decide)]
      split
      · exact absurd ‹_› h1
      · rfl
theorem b_blind {E : bE} {ad : Nat → Nat} {n : Nat} {w : bW} {av : List Value} : FrameBlind (va_Pc av (fun U => b_G E U U.heap ∧ b_R E ad n w U.heap)) := by
  intro a U g mk h
  exact ⟨h.1, b_G.same (s := U) (U := U.calling g mk a) h.2.1 rfl, h.2.2⟩
/-- a method by a walk from its entry -/
theorem c_of {d mc ms n : Nat} {M : bM} {args : List bV} {w : bW} {Q : Int → Nat → bW → Prop} {X : String → Nat → bW → Prop} (hy : plainName M.1.cls = true) (hh : M.2.2.2.2 = []) (h9 : args.all (fun x => !(Nat.beq x.1 9)) = true) (hw : Nat.ble (b_wds args) M.2.2.1 = true)
    {ls : List bV} (hls : b_ent args M.2.2.1 = ls) (k : b_X (d, mc, ms, M, n, Q, X) n 0 0 0 ls [] w) : b_C d mc ms M args n w Q X := by
  subst hls
  intro E ad hargs
  have hwl : b_wsl M = Cond.code M.1 M.2.1 M.2.2.1 M.2.2.2.1 :: lw_all := by unfold b_wsl; rw [hh]
  rw [hwl]
  have h9' : ∀ x ∈ args, x.1 ≠ 9 := by
    intro x hx e
    have := List.all_eq_true.mp h9 x hx
    rw [e] at this
    cases this
  refine vx_ofW (cc := M.2.1) (maxL := M.2.2.1) (ret := M.2.2.2.1) hy rfl ?_
  intro p e s m a below meth c s₁ B hml htb hv
  obtain ⟨rfl, hG, hR⟩ := hv
  have hts := atoms_spec (ws := Cond.code M.1 M.2.1 M.2.2.1 M.2.2.2.1 :: lw_all) B.pre
  have hts : ∀ w ∈ lw_all, w.before _ s = true := fun w h => hts w (List.mem_cons_of_mem _ h)
  have hown : s.vm.findClass M.1.cls = some m.cls := findClass_of_methodNamed B.named
  have hin : meth.name = M.1.name := (name_of_methodNamed B.named B.method).1
  have ht : c.exceptionTable.toList = tableOf M.2.2.2.2 := by
    rw [hh]
    cases hc : c.exceptionTable.toList with
    | nil => rfl
    | cons x r => exact absurd (htb x (by rw [hc]; exact List.mem_cons_self)) (fun h => h)
  have hl := lv_entry (args.map (b_vl E ad)) (n := M.2.2.1) (by rw [b_wds_len]; exact Nat.le_of_ble_eq_true hw)
  rw [lg_entry_eq]
  generalize (lg_sl (args.map (b_vl E ad)) ++ List.replicate (M.2.2.1 - (lg_sl (args.map (b_vl E ad))).length) Slot.unset).toArray = lsA at hl ⊢
  exact k E p e s m _ below meth c s.heap [] ad ad lsA ⟨B.exec, B.bytes, B.returns, hml, hown, hts, B.notSynchronized, ht, hin⟩ hG hG.2.2 (fun _ _ => rfl) (Nat.le_refl _) hR va_S.rf (by rw [b_lvs_ent E ad args _ 0 h9']; exact hl) (b_ok_ent args _ hargs) (fun x hx => by cases hx)
/-- ends -/
theorem b_qc {E : bE} {ad0 ad : Nat → Nat} {s t : State} {H : Heap} {locs : List Loc} {args : Array Value} {n0 n : Nat} {M : bM} {Q : Int → Nat → bW → Prop} {x : Int} {r : Option Value} (hr : r = b_rv M E ad x) (ha0 : ∀ i, i < n0 → ad i = ad0 i) (hn : n0 ≤ n) (hR : b_R E ad n w H) (hS : va_S (bA E) s.heap H locs) (hx : b_okv n (b_rtt M.2.2.2.1, x)) (hq : Q x n w) (ht : t.heap = H) : b_Qc E ad0 n0 M Q args s (.returned r) t :=
  ⟨x, n, w, ad, by rw [hr], ha0, hn, by rw [ht]; exact hR, hS.F ht, hx, hq⟩
theorem x_iret {x : Int} (hd : decode (bZ_M Z).2.1 pc = .ok (.ireturn, 1)) (hr : (bZ_M Z).2.2.2.1 = some .int) (hu : u ≤ Z.2.1) (hv : v ≤ Z.2.2.1) (k : Z.2.2.2.2.2.1 x n w) : b_X Z n u v pc ls [(0, x)] w := by
  intro E p e s m args below meth c' H locs ad0 ad lsA hC hG hb ha0 hn hR hS hl hls hst
  refine vx_ret (W.widen hu hv (W.iret hC.1 hC.2.1 (hC.2.2.1.trans hr) (fun t ht _ => b_qc ?_ ha0 hn hR hS ?_ k ht) hS.2.2 hd hC.2.2.2.2.2.2.1))
  · unfold b_rv; rw [hr]; rfl
  · rw [hr]; exact b_h0 hst
theorem x_zret {x : Int} (hd : decode (bZ_M Z).2.1 pc = .ok (.ireturn, 1)) (hr : (bZ_M Z).2.2.2.1 = some .boolean) (hx : x = 0 ∨ x = 1) (hu : u ≤ Z.2.1) (hv : v ≤ Z.2.2.1) (k : Z.2.2.2.2.2.1 x n w) : b_X Z n u v pc ls [(0, x)] w := by
  intro E p e s m args below meth c' H locs ad0 ad lsA hC hG hb ha0 hn hR hS hl hls hst
  refine vx_ret (W.widen hu hv (W.zret (ty := .boolean) hC.1 hC.2.1 (hC.2.2.1.trans hr) ?_ (fun t ht _ => b_qc ?_ ha0 hn hR hS ?_ k ht) hS.2.2 hd hC.2.2.2.2.2.2.1))
  · rcases hx with rfl | rfl <;> rfl
  · unfold b_rv; rw [hr]; rfl
  · rw [hr]; exact b_h0 hst
theorem x_cret {x : Int} (hd : decode (bZ_M Z).2.1 pc = .ok (.ireturn, 1)) (hr : (bZ_M Z).2.2.2.1 = some .char) (hx : 0 ≤ x ∧ x ≤ 65535) (hu : u ≤ Z.2.1) (hv : v ≤ Z.2.2.1) (k : Z.2.2.2.2.2.1 x n w) : b_X Z n u v pc ls [(0, x)] w := by
  intro E p e s m args below meth c' H locs ad0 ad lsA hC hG hb ha0 hn hR hS hl hls hst
  refine vx_ret (W.widen hu hv (W.zret (ty := .char) hC.1 hC.2.1 (hC.2.2.1.trans hr) ?_ (fun t ht _ => b_qc ?_ ha0 hn hR hS ?_ k ht) hS.2.2 hd hC.2.2.2.2.2.2.1))
  · obtain ⟨z, rfl⟩ : ∃ z : Nat, x = z := ⟨x.toNat, by omega⟩
    exact (pk_charN (q := z) (by omega)).1
  · unfold b_rv; rw [hr]; rfl
  · rw [hr]; exact b_h0 hst
theorem x_bret {x : Int} (hd : decode (bZ_M Z).2.1 pc = .ok (.ireturn, 1)) (hr : (bZ_M Z).2.2.2.1 = some .byte) (hx : b_b8 x = x) (hu : u ≤ Z.2.1) (hv : v ≤ Z.2.2.1) (k : Z.2.2.2.2.2.1 x n w) : b_X Z n u v pc ls [(0, x)] w := by
  intro E p e s m args below meth c' H locs ad0 ad lsA hC hG hb ha0 hn hR hS hl hls hst
  refine vx_ret (W.widen hu hv (W.zret (ty := .byte) hC.1 hC.2.1 (hC.2.2.1.trans hr) ?_ (fun t ht _ => b_qc ?_ ha0 hn hR hS ?_ k ht) hS.2.2 hd hC.2.2.2.2.2.2.1))
  · show Value.int (Int32.ofInt x).toInt8.toInt32 = _
    rw [b_i2b, hx]
  · unfold b_rv; rw [hr]; rfl
  · rw [hr]; exact b_h0 hst
theorem x_vret (hd : decode (bZ_M Z).2.1 pc = .ok (.return_, 1)) (hr : (bZ_M Z).2.2.2.1 = none) (hu : u ≤ Z.2.1) (hv : v ≤ Z.2.2.1) (k : Z.2.2.2.2.2.1 0 n w) : b_X Z n u v pc ls [] w := by
  intro E p e s m args below meth c' H locs ad0 ad lsA hC hG hb ha0 hn hR hS hl hls hst
  refine vx_ret (W.widen hu hv (W.vret hC.1 hC.2.1 (hC.2.2.1.trans hr) (fun t ht _ => b_qc ?_ ha0 hn hR hS ?_ k ht) hS.2.2 hd hC.2.2.2.2.2.2.1))
  · unfold b_rv; rw [hr]
  · rw [hr]; exact b_ok9
theorem x_lret {x : Int} (hd : decode (bZ_M Z).2.1 pc = .ok (.lreturn, 1)) (hr : (bZ_M Z).2.2.2.1 = some .long) (hu : u ≤ Z.2.1) (hv : v ≤ Z.2.2.1) (k : Z.2.2.2.2.2.1 x n w) : b_X Z n u v pc ls [(1, x)] w := by
  intro E p e s m args below meth c' H locs ad0 ad lsA hC hG hb ha0 hn hR hS hl hls hst
  refine vx_ret (W.widen hu hv (W.lret hC.1 hC.2.1 (hC.2.2.1.trans hr) (fun t ht _ => b_qc ?_ ha0 hn hR hS ?_ k ht) hS.2.2 hd hC.2.2.2.2.2.2.1))
  · unfold b_rv; rw [hr]; rfl
  · rw [hr]; exact b_h0 hst
theorem x_aret {x : Int} {ty : FieldType} (hd : decode (bZ_M Z).2.1 pc = .ok (.areturn, 1)) (hr : (bZ_M Z).2.2.2.1 = some ty) (hty : (∃ C, ty = .object C) ∨ ∃ a, ty = .array a) (hu : u ≤ Z.2.1) (hv : v ≤ Z.2.2.1) (k : Z.2.2.2.2.2.1 x n w) : b_X Z n u v pc ls [(2, x)] w := by
  intro E p e s m args below meth c' H locs ad0 ad lsA hC hG hb ha0 hn hR hS hl hls hst
  have ht2 : b_rtt (some ty) = 2 := by rcases hty with ⟨C, rfl⟩ | ⟨a, rfl⟩ <;> rfl
  refine vx_ret (W.widen hu hv (W.aret hC.1 hC.2.1 (hC.2.2.1.trans hr) hty (b_ref E ad (Nat.le_refl 2)) (fun t ht _ => b_qc ?_ ha0 hn hR hS ?_ k ht) hS.2.2 hd hC.2.2.2.2.2.2.1))
  · unfold b_rv; rw [hr]; simp only [ht2]
  · rw [hr, ht2]; exact b_h0 hst
/-- what a callee's answer is on the stack -/
def b_res (r : Option FieldType) (x : Int) (st : List bV) : List bV := match r with
  | none => st
  | some _ => (b_rtt r, x) :: st
theorem b_res_map {E : bE} {ad : Nat → Nat} {M : bM} {x : Int} {st : List bV} : (b_res M.2.2.2.1 x st).map (b_vl E ad) = (b_rv M E ad x).toList ++ st.map (b_vl E ad) := by
  unfold b_res b_rv
  cases h : M.2.2.2.1 with
  | none => rfl
  | some t => rfl
theorem b_res_ok {n : Nat} {r : Option FieldType} {x : Int} {st : List bV} (h : b_okv n (b_rtt r, x)) (hs : ∀ y ∈ st, b_okv n y) : ∀ y ∈ b_res r x st, b_okv n y := by
  unfold b_res
  cases r with
  | none => exact hs
  | some t => exact b_all0 h hs
theorem b_map_agree {E : bE} {ad ad' : Nat → Nat} {n : Nat} {st : List bV} (h : ∀ y ∈ st, b_okv n y) (ha : ∀ i, i < n → ad' i = ad i) : st.map (b_vl E ad') = st.map (b_vl E ad) := List.map_congr_left fun y hy => b_vl_agree (h y hy) ha
/-- behind a call -/
theorem b_after {E : bE} {p : Program} {e : Env} {s : State} {m : MethodId} {args : Array Value} {below : List Frame} {meth : Method} {c : Code} {H : Heap} {locs : List Loc} {ad0 ad : Nat → Nat} {lsA : Array Slot} {M : bM} {mc ms : Nat} {As : Array Value} {rest : List bV} {st0 : List Value} {X : String → Nat → bW → Prop}
    (hC : b_Cx (bZ_M Z) p s m args meth c) (hh : (bZ_M Z).2.2.2.2 = []) (hG : b_G E s H) (hb : bE_b E ≤ s.heap.size) (ha0 : ∀ i, i < Z.2.2.2.2.1 → ad i = ad0 i) (hn : Z.2.2.2.2.1 ≤ n) (hS : va_S (bA E) s.heap H locs) (hl : lv_has lsA (bZ_M Z).2.2.1 (b_lvs E ad 0 ls)) (hls : ∀ x ∈ ls, b_okv n x) (hst : ∀ x ∈ rest, b_okv n x) (hu : u + mc ≤ Z.2.1) (hv : v + ms ≤ Z.2.2.1) (hq : pc + 3 = q)
    (hX : ∀ C n' w', X C n' w' → Z.2.2.2.2.2.2 C n' w')
    (hr : vx_Run p (bE_l E) e (b_rm Z.1 Z.2.1 Z.2.2.1) s m args below meth c H locs u v mc ms (F0 m pc lsA st0) (rest.map (b_vl E ad)) (b_Qc E ad n M (fun r n' w' => b_X Z n' (u + mc) (v + ms) q ls (b_res M.2.2.2.1 r rest) w') As) (b_XC E ad n X) (bA E)) :
    W p (bE_l E) e (b_rm Z.1 Z.2.1 Z.2.2.1) s m args below meth c H locs u v (vx_MQ below (b_Qc E ad0 Z.2.2.2.2.1 (bZ_M Z) Z.2.2.2.2.2.1) (b_XC E ad0 Z.2.2.2.2.1 Z.2.2.2.2.2.2) args s Z.2.1 Z.2.2.1 (bA E)) (F0 m pc lsA st0) := by
  subst hq
  intro T hT X'
  have keep : ∀ {st₀ t T' : State} {L : List Loc}, st₀.heap = H → T'.heap = t.heap → (∀ q ∈ L, bA E q.base) → va_F (bA E) st₀ t → va_S (bA E) s.heap T'.heap (locs ++ L) := fun h0 e1 hL hF => (vx_keep h0 e1 hS (fun _ _ h => h) (fun _ h => h) hL hF).2.2
  rcases hr T hT X' with ⟨r, st₀, t, T', L, h0, X1, hL, e1, e2, ⟨x, n', w', ad', hrr, ha, hnn, hR', hF, hok, hQ⟩, go⟩ | ⟨qq, st₀, t, T', L, C, ce, h0, X1, hL, e1, e2, ⟨n', w', ad', ha, hnn, hR', hF, hQ⟩, hce, hcv, hcl, go⟩
  · have hrr := Outcome.returned.inj hrr
    subst hrr
    have hS' := keep h0 e1 hL hF
    have hmono : ∀ y, b_okv n y → b_okv n' y := fun y h => b_okv_mono h hnn
    have hls' : lv_has lsA (bZ_M Z).2.2.1 (b_lvs E ad' 0 ls) := by rw [b_lvs_agree ha ls 0 hls]; exact hl
    have key := hQ E p e s m args below meth c T'.heap (locs ++ L) ad0 ad' lsA hC (b_G_of_S hG hb hS hS') hb (fun i hi => (ha i (by omega)).trans (ha0 i hi)) (by omega) (by rw [e1]; exact hR') hS' hls' (fun y hy => hmono y (hls y hy)) (b_res_ok hok (fun y hy => hmono y (hst y hy)))
    rw [b_res_map, b_map_agree hst ha] at key
    obtain ⟨t2, a1, b1⟩ := key T' rfl X1
    exact ⟨t2, go t2 a1, b1⟩
  · have hS' := keep h0 e1 hL hF
    have hout : ∀ x ∈ c.exceptionTable.toList, covers x pc = false := by
      rw [hC.2.2.2.2.2.2.2.1, hh]
      intro x hx
      cases hx
    have key : vx_W p (bE_l E) e (b_rm Z.1 Z.2.1 Z.2.2.1) s m args below meth c T'.heap (locs ++ L) (u + mc) (v + ms) (vx_MQ below (b_Qc E ad0 Z.2.2.2.2.1 (bZ_M Z) Z.2.2.2.2.2.1) (b_XC E ad0 Z.2.2.2.2.1 Z.2.2.2.2.2.2) args s Z.2.1 Z.2.2.1 (bA E)) (F0 m pc lsA (rest.map (b_vl E ad))) qq :=
      vx_out hout hC.2.2.2.2.2.2.1 (by rw [e1]; exact hce) hcv hcl (fun t9 h9 _ => ⟨n', w', ad', fun i hi => (ha i (by omega)).trans (ha0 i hi), by omega, by rw [h9, e1]; exact hR', hS'.F h9, hX _ _ _ hQ⟩) hS'.2.2 hu hv
    obtain ⟨t2, a1, b1⟩ := key T' rfl X1
    exact ⟨t2, go.trans a1, b1⟩
theorem b_room {d d' L : Nat} (hd : d' = d + 1) (hL : Nat.ble L 45 = true) : d + 1 ≤ d' ∧ 8 + (L + 11) + 64 * d ≤ 64 * d' := by
  have := Nat.le_of_ble_eq_true hL
  omega
/-- a call through an object -/
theorem x_invV (idx : Nat) {M : bM} {d mc ms c N : Nat} {C : String} {T : u_T} {o : Int} {As stk : List bV} {X : String → Nat → bW → Prop} (hd : decode (bZ_M Z).2.1 pc = .ok (.invokevirtual idx, 3)) (ho : b_is n o 0 c N) (hc : vwCl[c]? = some (C, T, N))
    (h1 : Cond.methodLink (bZ_M Z).1.cls idx M.1 ∈ lw_all) (h2 : Cond.instanceMethod M.1 ∈ lw_all) (h3 : Cond.selects C M.1 M.1 ∈ lw_all) (h4 : Cond.initialized C ∈ lw_all) (h5 : Cond.code M.1 M.2.1 M.2.2.1 M.2.2.2.1 ∈ lw_all)
    (hm : M.1.cls = C ∧ M.1.cls ≠ "java/lang/invoke/MethodHandle" ∧ M.1.cls ≠ "java/lang/invoke/VarHandle" ∧ (parseMethodDescriptor M.1.desc).map (fun d => d.parameters.length) = some As.length)
    (hh : M.2.2.2.2 = []) (hh' : (bZ_M Z).2.2.2.2 = []) (hdd : Z.1 = d + 1) (hL : Nat.ble M.2.2.1 45 = true) (hs : As.reverse ++ (2, o) :: st = stk) (hr : Nat.ble (b_wds st) 8 = true) (hu : u + mc ≤ Z.2.1) (hv : v + ms ≤ Z.2.2.1) (hq : pc + 3 = q)
    (hX : ∀ C n' w', X C n' w' → Z.2.2.2.2.2.2 C n' w')
    (k : b_C d mc ms M ((2, o) :: As) n w (fun r n' w' => b_X Z n' (u + mc) (v + ms) q ls (b_res M.2.2.2.1 r st) w') X) : b_X Z n u v pc ls stk w := by
  subst hs
  obtain ⟨i0, i1, i2⟩ := ho
  intro E p e s m args below meth c' H locs ad0 ad lsA hC hG hb ha0 hn hR hS hl hls hst
  have hAs : ∀ x ∈ As, b_okv n x := fun x hx => hst x (List.mem_append_left _ (List.mem_reverse.mpr hx))
  have hrest : ∀ x ∈ (2, o) :: st, b_okv n x := fun x hx => hst x (List.mem_append_right _ hx)
  have hM := k E ad (fun x hx => by
    rcases List.mem_cons.mp hx with e | e
    · rw [e]; exact b_h0 hrest
    · exact hAs x e)
  have hwl : b_wsl M = Cond.code M.1 M.2.1 M.2.2.1 M.2.2.2.1 :: lw_all := by unfold b_wsl; rw [hh]
  rw [hwl] at hM
  have hat := b_ws_at (E := E) (ad := ad) (w := w) i1
  rw [b_en_o w i2] at hat
  rw [List.map_cons, b_vl2 i0] at hM
  refine b_after (M := M) (mc := mc) (ms := ms) (rest := st) (X := X) (q := q) hC hh' hG hb ha0 hn hS hl hls (b_tl hrest) hu hv hq hX
    (vx_runV (As := As.map (b_vl E ad)) (rest := st.map (b_vl E ad)) (Ts := lw_all) (nL := (bZ_M Z).2.2.1) ⟨hC.1, hC.2.1, hC.2.2.2.1, hC.2.2.2.2.1, hC.2.2.2.2.2.1⟩ hM (cwV (C := C) (rm := b_rm d mc ms) As.length hC.2.2.2.2.2.1 (lw_V h1 h2 h3 h4 h5) rfl rfl rfl hm (b_room hdd hL)) ⟨b_blind, va_recv hG.1 hR.1 hc hat, fun U hU hW => ⟨rfl, by rw [hU]; exact hG.down hW, by rw [hU]; exact hR⟩⟩ rfl (by simp) hl.1 ?_ ?_ hd ⟨hu, hv⟩)
  · simp [b_vl2 i0]
  · have : ∀ l : List bV, ((l.map (b_vl E ad)).map fun v => v.category).sum = b_wds l := by
      intro l
      induction l with
      | nil => rfl
      | cons x r ih =>
        rw [List.map_cons, List.map_cons, List.sum_cons, ih, b_wds]
        split
        · rename_i h; rw [b_cat2 E ad h]
        · rename_i h; rw [b_cat1 E ad (b_beq1 h)]
    exact lv_room (by rw [this]; exact Nat.le_of_ble_eq_true hr)
end BridgeCall
