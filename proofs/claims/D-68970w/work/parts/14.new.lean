section BridgeNew
variable {Z : bZ} {n u v pc q : Nat} {ls st : List bV} {w : bW}
/-- what a new object's places hold -/
def b_df (k : Nat) (i : Int) : Int := match b_sh k with
  | (0, c, _) => if Nat.beq (b_ft c i.toNat) 2 then -1 else 0
  | (3, _, _) => -1
  | _ => 0
def b_nw (w : bW) (k : Int) : bW := fun o i => if o = k then b_df k.toNat i else w o i
theorem b_nw_self {w : bW} {k : Nat} {i : Int} : b_nw w k k i = b_df k i := by
  unfold b_nw
  rw [if_pos rfl, Int.toNat_natCast]
theorem b_nw_ne {w : bW} {k o i : Int} (h : o ≠ k) : b_nw w k o i = w o i := by
  unfold b_nw
  rw [if_neg h]
theorem b_en_agree {E : bE} {ad ad' : Nat → Nat} {w w' : bW} {n i : Nat} (hw : b_wfo n w i) (ha : ∀ j, j < n → ad' j = ad j) (he : ∀ j : Int, w' i j = w i j) : b_en E ad' w' i = b_en E ad w i := by
  rcases hs : b_sh i with ⟨g, c, N⟩
  match g, hs with
  | 0, hs =>
    rw [b_en_o _ hs, b_en_o _ hs]
    rw [b_wfo_o hs] at hw
    congr 2
    apply List.map_congr_left
    intro f hf
    rw [he]
    exact b_vl_agree (hw f (List.mem_range.mp hf)) ha
  | 1, hs =>
    rw [b_en_i _ hs, b_en_i _ hs]
    simp only [he]
  | 2, hs =>
    rw [b_en_l _ hs, b_en_l _ hs]
    simp only [he]
  | g + 3, hs =>
    have e3 : ∀ (ad : Nat → Nat) (w : bW), b_en E ad w i = .inl (bE_a E c, N, .inr (.inr (.inr (.inr fun j => if j < N then (if w i j < 0 then none else some (ad (w i j).toNat)) else none)))) := by
      intro ad w
      unfold b_en
      rw [hs]
      rfl
    have hw3 : ∀ j : Nat, j < N → w i j < n := by
      unfold b_wfo at hw
      rw [hs] at hw
      exact hw
    rw [e3, e3]
    congr 7
    funext j
    rw [he]
    by_cases hj : j < N
    · rw [if_pos hj, if_pos hj]
      by_cases h0 : w i j < 0
      · rw [if_pos h0, if_pos h0]
      · rw [if_neg h0, if_neg h0, ha _ (by have := hw3 j hj; omega)]
    · rw [if_neg hj, if_neg hj]
theorem b_ws_new {E : bE} {ad : Nat → Nat} {w : bW} {n a : Nat} (hw : b_wf n w) : b_ws E (fun i => if i = n then a else ad i) (b_nw w n) (n + 1) = b_ws E ad w n ++ [(a, b_en E (fun i => if i = n then a else ad i) (b_nw w n) n)] := by
  unfold b_ws
  rw [List.range_succ, List.map_append, List.map_singleton]
  congr 1
  · apply List.map_congr_left
    intro i hi
    have hi := List.mem_range.mp hi
    show ((if i = n then a else ad i), b_en E (fun i => if i = n then a else ad i) (b_nw w n) i) = (ad i, b_en E ad w i)
    rw [if_neg (by omega), b_en_agree (hw i hi) (fun j hj => by rw [if_neg (by omega)]) (fun j => b_nw_ne (by omega))]
  · simp
theorem b_wf_new {w : bW} {n : Nat} (hw : b_wf n w) (hN : b_wfo (n + 1) (b_nw w n) n) : b_wf (n + 1) (b_nw w n) := by
  intro i hi
  by_cases h : i = n
  · subst h; exact hN
  · have hi : i < n := by omega
    have h1 := hw i hi
    have he : ∀ j : Int, b_nw w n i j = w i j := fun j => b_nw_ne (by omega)
    rcases hs : b_sh i with ⟨g, c, N⟩
    match g, hs with
    | 0, hs =>
      rw [b_wfo_o hs] at h1 ⊢
      intro f hf
      rw [he]
      exact b_okv_mono (h1 f hf) (by omega)
    | 1, hs =>
      rw [b_wfo_i hs] at h1 ⊢
      intro f hf
      rw [he]
      exact h1 f hf
    | 2, hs =>
      rw [b_wfo_l hs] at h1 ⊢
      intro f hf
      rw [he]
      exact h1 f hf
    | g + 3, hs =>
      have e3 : ∀ (n : Nat) (w : bW), b_wfo n w i = ∀ j : Nat, j < N → w i j < n := by
        intro n w
        unfold b_wfo
        rw [hs]
        rfl
      rw [e3] at h1 ⊢
      intro f hf
      rw [he]
      have := h1 f hf
      omega
theorem b_finL_lt : b_finL.all (fun p => decide (p.1 < b_thr p.1)) = true := by decide +kernel
theorem b_fin_new {n : Nat} {w : bW} (h : b_fin n w) (hf : ∀ p ∈ b_finL, b_thr p.1 = n + 1 → b_nw w n p.1 p.2.1 = p.2.2) : b_fin (n + 1) (b_nw w n) := by
  intro p hp ht
  by_cases e : b_thr p.1 = n + 1
  · exact hf p hp e
  · have h1 := h p hp (by omega)
    have h2 := of_decide_eq_true (List.all_eq_true.mp b_finL_lt p hp)
    rw [b_nw_ne (by omega)]
    exact h1
theorem b_fin_no {n : Nat} {w : bW} (h1 : n ≠ 142) (h2 : n ≠ 253) : ∀ p ∈ b_finL, b_thr p.1 = n + 1 → b_nw w n p.1 p.2.1 = p.2.2 := by
  intro p _ h
  unfold b_thr at h
  split at h <;> omega
/-- into the world with one object more -/
theorem b_grow {E : bE} {p : Program} {e : Env} {s : State} {m : MethodId} {args : Array Value} {below : List Frame} {meth : Method} {c' : Code} {H H1 : Heap} {locs locs1 : List Loc} {ad0 ad : Nat → Nat} {lsA : Array Slot} {a u' v' : Nat} {en : va_E}
    (hC : b_Cx (bZ_M Z) p s m args meth c') (hG : b_G E s H) (hb : bE_b E ≤ s.heap.size) (ha0 : ∀ i, i < Z.2.2.2.2.1 → ad i = ad0 i) (hn : Z.2.2.2.2.1 ≤ n) (hR : b_R E ad n w H) (hS : va_S (bA E) s.heap H locs) (hl : lv_has lsA (bZ_M Z).2.2.1 (b_lvs E ad 0 ls)) (hls : ∀ x ∈ ls, b_okv n x) (hst : ∀ x ∈ st, b_okv n x) (h255 : n < 255) (hfin : ∀ p ∈ b_finL, b_thr p.1 = n + 1 → b_nw w n p.1 p.2.1 = p.2.2)
    (hen : b_en E (fun i => if i = n then a else ad i) (b_nw w n) n = en) (hwn : b_wfo (n + 1) (b_nw w n) n) (p1 : va_P (bE_D E) vwCl (b_ws E ad w n ++ [(a, en)]) H1) (p2 : va_D (bA E) (b_ws E ad w n ++ [(a, en)])) (p3 : va_S (bA E) s.heap H1 locs1)
    (k : b_X Z (n + 1) u' v' q ls ((2, (n : Int)) :: st) (b_nw w n)) :
    W p (bE_l E) e (b_rm Z.1 Z.2.1 Z.2.2.1) s m args below meth c' H1 locs1 u' v' (vx_MQ below (b_Qc E ad0 Z.2.2.2.2.1 (bZ_M Z) Z.2.2.2.2.2.1) (b_XC E ad0 Z.2.2.2.2.1 Z.2.2.2.2.2.2) args s Z.2.1 Z.2.2.1 (bA E)) (F0 m q lsA (.ref a :: st.map (b_vl E ad))) := by
  subst hen
  rw [← b_ws_new hR.2.2.1] at p1 p2
  have hag : ∀ i, i < n → (fun i => if i = n then a else ad i) i = ad i := fun i hi => by show (if i = n then a else ad i) = _; rw [if_neg (by omega)]
  have key := k E p e s m args below meth c' H1 locs1 ad0 (fun i => if i = n then a else ad i) lsA hC (b_G_of_S hG hb hS p3) hb (fun i hi => (hag i (by omega)).trans (ha0 i hi)) (by omega) ⟨p1, p2, b_wf_new hR.2.2.1 hwn, by omega, b_sc_of hR.2.2.2.2.1 (fun o x ho => b_nw_ne (by omega)), b_fin_new hR.2.2.2.2.2 hfin⟩ p3 (by rw [b_lvs_agree hag ls 0 hls]; exact hl) (fun x hx => b_okv_mono (hls x hx) (by omega)) (b_all0 (b_okr (by omega)) (fun x hx => b_okv_mono (hst x hx) (by omega)))
  rw [List.map_cons, b_vl2n, b_map_agree hst hag, if_pos rfl] at key
  exact key
theorem x_new (idx : Nat) {c N : Nat} {C : String} {T : u_T} {ty : Nat → FieldType} (hd : decode (bZ_M Z).2.1 pc = .ok (.new idx, 3)) (hs : b_sh n = (0, c, N)) (hc : vwCl[c]? = some (C, T, N)) (hin : ∀ x ∈ u_ws C T N, x ∈ lw_all) (hty : ∀ k, k < N → parseFieldDescriptor (T k).2.2.1 = some (ty k))
    (hdf : ∀ (E : bE) (ad : Nat → Nat) (f : Nat), f < N → defaultValue (ty f) = b_vl E ad (b_ft c f, if Nat.beq (b_ft c f) 2 then -1 else 0)) (h1 : Cond.classLink (bZ_M Z).1.cls idx C ∈ lw_all) (h2 : Cond.instantiable C N ∈ lw_all) (h3 : Cond.initialized C ∈ lw_all) (hft : ∀ f, f < N → b_ft c f = 0 ∨ b_ft c f = 1 ∨ b_ft c f = 2) (h255 : n < 255) (hfin : ∀ p ∈ b_finL, b_thr p.1 = n + 1 → b_nw w n p.1 p.2.1 = p.2.2) (hu : u + 1 ≤ Z.2.1) (hv : v + N ≤ Z.2.2.1) (hq : pc + 3 = q)
    (k : b_X Z (n + 1) (u + 1) (v + N) q ls ((2, (n : Int)) :: st) (b_nw w n)) : b_X Z n u v pc ls st w := by
  subst hq
  intro E p e s m args below meth c' H locs ad0 ad lsA hC hG hb ha0 hn hR hS hl hls hst
  have hbf : ∀ f : Nat, b_df n f = if Nat.beq (b_ft c f) 2 then -1 else 0 := by
    intro f
    unfold b_df
    rw [hs, Int.toNat_natCast]
    rfl
  refine va_new (ci := c) (fs := (List.range N).map fun f => b_vl E ad (b_ft c f, if Nat.beq (b_ft c f) 2 then -1 else 0)) hC.1 hC.2.1 hC.2.2.2.2.2.1 hin ty hty hC.2.2.2.2.1 (hC.2.2.2.2.2.1 _ h1) (hC.2.2.2.2.2.1 _ h2) (hC.2.2.2.2.2.1 _ h3) hG.1 hR.1 hR.2.1 hS (fun q hq => Nat.le_trans hb hq) hc (fun j hj => ?_) hu hv hd (fun a H1 p1 p2 p3 => ?_)
  · rw [hdf E ad j hj]
    unfold vp_V
    rw [List.getD_eq_getElem?_getD, List.getElem?_map, List.getElem?_range hj]
    rfl
  · refine b_grow hC hG hb ha0 hn hR hS hl hls hst h255 hfin ?_ ?_ p1 p2 p3 k
    · rw [b_en_o _ hs]
      congr 2
      apply List.map_congr_left
      intro f hf
      rw [b_nw_self, hbf]
      by_cases h : Nat.beq (b_ft c f) 2 = true
      · rw [h, Nat.eq_of_beq_eq_true h]
        rfl
      · rw [Bool.not_eq_true] at h
        rw [h]
        rcases hft f (List.mem_range.mp hf) with e | e | e
        · rw [e]; rfl
        · rw [e]; rfl
        · rw [e] at h; cases h
    · rw [b_wfo_o hs]
      intro f hf
      rw [b_nw_self, hbf]
      refine ⟨fun _ => ?_, fun _ => ?_, fun _ => ?_⟩
      all_goals (dsimp only; split <;> omega)
theorem b_tysK {E : bE} {s : State} {t : Nat} {cA : ClassId} {tys : List (ClassId × FieldType)} (hK : va_K (bE_D E) vwCl (b_tys (bE_a E)) s) (ht : (b_tys (bE_a E))[t]? = some (bE_a E t, b_aty t)) (hp : ∀ C, b_aty t ≠ .object C) (h : va_K (bE_D E) vwCl (b_tys (bE_a E) ++ [(cA, b_aty t)]) s) : cA = bE_a E t := by
  have h1 := (hK.2 t _ ht).2
  have h2 := (h.2 7 (cA, b_aty t) rfl).2
  have key : ∀ (c : ClassId), va_RA s c (b_aty t) → s.vm.findClass ("[" ++ (b_aty t).toString) = some c := by
    intro c hc
    unfold va_RA at hc
    split at hc
    · rename_i C e; exact absurd e (hp C)
    · exact hc
  exact Option.some.inj ((key _ h2).symm.trans (key _ h1))
theorem x_newaI {N : Nat} {z : Int} (hd : decode (bZ_M Z).2.1 pc = .ok (.newarray .int, 2)) (hs : b_sh n = (1, 0, N)) (hz : z = N) (h1 : Cond.arrayClass (newarray.typeOf .int) ∈ lw_all) (hby : Nat.ble (N * componentBytes .int) 536870912 = true) (h255 : n < 255) (hfin : ∀ p ∈ b_finL, b_thr p.1 = n + 1 → b_nw w n p.1 p.2.1 = p.2.2) (hu : u + 1 ≤ Z.2.1) (hv : v + N ≤ Z.2.2.1) (hq : pc + 2 = q)
    (k : b_X Z (n + 1) (u + 1) (v + N) q ls ((2, (n : Int)) :: st) (b_nw w n)) : b_X Z n u v pc ls ((0, z) :: st) w := by
  subst hq
  intro E p e s m args below meth c' H locs ad0 ad lsA hC hG hb ha0 hn hR hS hl hls hst
  have hr := b_ri (b_h0 hst)
  have hdf : ∀ j : Int, b_df n j = 0 := by
    intro j
    unfold b_df
    rw [hs]
    rfl
  rw [List.map_cons]
  refine va_newa (atype := .int) (ty := .int) (N' := N) (a0 := (N, .inl fun _ => 0)) hC.1 hC.2.1 (hC.2.2.2.2.2.1 _ h1) rfl hG.1 hR.1 hR.2.1 hS (fun q hq => Nat.le_trans hb hq) (fun cA => rfl) ?_ ?_ (Nat.le_of_ble_eq_true hby) hu hv hd (fun a cA H1 pK p1 p2 p3 => ?_)
  · show ¬ Int32.ofInt z < 0
    rw [show (0 : Int32) = Int32.ofInt 0 from rfl, b_ltI hr (by decide)]
    omega
  · show (Int32.ofInt z).toNatClampNeg = N
    rw [b_cl hr, hz, Int.toNat_natCast]
  · have hcA := b_tysK (t := 0) (tys := []) hG.1 rfl (fun C h => by cases h) pK
    subst hcA
    refine b_grow hC hG hb ha0 hn hR hS hl hls (b_tl hst) h255 hfin ?_ ?_ p1 p2 p3 k
    · rw [b_en_i _ hs]
      simp only [b_nw_self, hdf]
      rfl
    · rw [b_wfo_i hs]
      intro j hj
      rw [b_nw_self, hdf]
      exact ⟨by decide, by decide⟩
theorem x_newaB {N : Nat} {z : Int} (hd : decode (bZ_M Z).2.1 pc = .ok (.newarray .byte, 2)) (hs : b_sh n = (1, 1, N)) (hz : z = N) (h1 : Cond.arrayClass (newarray.typeOf .byte) ∈ lw_all) (hby : Nat.ble (N * componentBytes .byte) 536870912 = true) (h255 : n < 255) (hfin : ∀ p ∈ b_finL, b_thr p.1 = n + 1 → b_nw w n p.1 p.2.1 = p.2.2) (hu : u + 1 ≤ Z.2.1) (hv : v + N ≤ Z.2.2.1) (hq : pc + 2 = q)
    (k : b_X Z (n + 1) (u + 1) (v + N) q ls ((2, (n : Int)) :: st) (b_nw w n)) : b_X Z n u v pc ls ((0, z) :: st) w := by
  subst hq
  intro E p e s m args below meth c' H locs ad0 ad lsA hC hG hb ha0 hn hR hS hl hls hst
  have hr := b_ri (b_h0 hst)
  have hdf : ∀ j : Int, b_df n j = 0 := by
    intro j
    unfold b_df
    rw [hs]
    rfl
  rw [List.map_cons]
  refine va_newa (atype := .byte) (ty := .byte) (N' := N) (a0 := (N, .inl fun _ => 0)) hC.1 hC.2.1 (hC.2.2.2.2.2.1 _ h1) rfl hG.1 hR.1 hR.2.1 hS (fun q hq => Nat.le_trans hb hq) (fun cA => rfl) ?_ ?_ (Nat.le_of_ble_eq_true hby) hu hv hd (fun a cA H1 pK p1 p2 p3 => ?_)
  · show ¬ Int32.ofInt z < 0
    rw [show (0 : Int32) = Int32.ofInt 0 from rfl, b_ltI hr (by decide)]
    omega
  · show (Int32.ofInt z).toNatClampNeg = N
    rw [b_cl hr, hz, Int.toNat_natCast]
  · have hcA := b_tysK (t := 1) (tys := []) hG.1 rfl (fun C h => by cases h) pK
    subst hcA
    refine b_grow hC hG hb ha0 hn hR hS hl hls (b_tl hst) h255 hfin ?_ ?_ p1 p2 p3 k
    · rw [b_en_i _ hs]
      simp only [b_nw_self, hdf]
      rfl
    · rw [b_wfo_i hs]
      intro j hj
      rw [b_nw_self, hdf]
      exact ⟨by decide, by decide⟩
theorem x_newaZ {N : Nat} {z : Int} (hd : decode (bZ_M Z).2.1 pc = .ok (.newarray .boolean, 2)) (hs : b_sh n = (1, 2, N)) (hz : z = N) (h1 : Cond.arrayClass (newarray.typeOf .boolean) ∈ lw_all) (hby : Nat.ble (N * componentBytes .boolean) 536870912 = true) (h255 : n < 255) (hfin : ∀ p ∈ b_finL, b_thr p.1 = n + 1 → b_nw w n p.1 p.2.1 = p.2.2) (hu : u + 1 ≤ Z.2.1) (hv : v + N ≤ Z.2.2.1) (hq : pc + 2 = q)
    (k : b_X Z (n + 1) (u + 1) (v + N) q ls ((2, (n : Int)) :: st) (b_nw w n)) : b_X Z n u v pc ls ((0, z) :: st) w := by
  subst hq
  intro E p e s m args below meth c' H locs ad0 ad lsA hC hG hb ha0 hn hR hS hl hls hst
  have hr := b_ri (b_h0 hst)
  have hdf : ∀ j : Int, b_df n j = 0 := by
    intro j
    unfold b_df
    rw [hs]
    rfl
  rw [List.map_cons]
  refine va_newa (atype := .boolean) (ty := .boolean) (N' := N) (a0 := (N, .inl fun _ => 0)) hC.1 hC.2.1 (hC.2.2.2.2.2.1 _ h1) rfl hG.1 hR.1 hR.2.1 hS (fun q hq => Nat.le_trans hb hq) (fun cA => rfl) ?_ ?_ (Nat.le_of_ble_eq_true hby) hu hv hd (fun a cA H1 pK p1 p2 p3 => ?_)
  · show ¬ Int32.ofInt z < 0
    rw [show (0 : Int32) = Int32.ofInt 0 from rfl, b_ltI hr (by decide)]
    omega
  · show (Int32.ofInt z).toNatClampNeg = N
    rw [b_cl hr, hz, Int.toNat_natCast]
  · have hcA := b_tysK (t := 2) (tys := []) hG.1 rfl (fun C h => by cases h) pK
    subst hcA
    refine b_grow hC hG hb ha0 hn hR hS hl hls (b_tl hst) h255 hfin ?_ ?_ p1 p2 p3 k
    · rw [b_en_i _ hs]
      simp only [b_nw_self, hdf]
      rfl
    · rw [b_wfo_i hs]
      intro j hj
      rw [b_nw_self, hdf]
      exact ⟨by decide, by decide⟩
theorem x_newaJ {N : Nat} {z : Int} (hd : decode (bZ_M Z).2.1 pc = .ok (.newarray .long, 2)) (hs : b_sh n = (2, 3, N)) (hz : z = N) (h1 : Cond.arrayClass (newarray.typeOf .long) ∈ lw_all) (hby : Nat.ble (N * componentBytes .long) 536870912 = true) (h255 : n < 255) (hfin : ∀ p ∈ b_finL, b_thr p.1 = n + 1 → b_nw w n p.1 p.2.1 = p.2.2) (hu : u + 1 ≤ Z.2.1) (hv : v + N ≤ Z.2.2.1) (hq : pc + 2 = q)
    (k : b_X Z (n + 1) (u + 1) (v + N) q ls ((2, (n : Int)) :: st) (b_nw w n)) : b_X Z n u v pc ls ((0, z) :: st) w := by
  subst hq
  intro E p e s m args below meth c' H locs ad0 ad lsA hC hG hb ha0 hn hR hS hl hls hst
  have hr := b_ri (b_h0 hst)
  have hdf : ∀ j : Int, b_df n j = 0 := by
    intro j
    unfold b_df
    rw [hs]
    rfl
  rw [List.map_cons]
  refine va_newa (atype := .long) (ty := .long) (N' := N) (a0 := (N, .inr (.inl fun _ => 0))) hC.1 hC.2.1 (hC.2.2.2.2.2.1 _ h1) rfl hG.1 hR.1 hR.2.1 hS (fun q hq => Nat.le_trans hb hq) (fun cA => rfl) ?_ ?_ (Nat.le_of_ble_eq_true hby) hu hv hd (fun a cA H1 pK p1 p2 p3 => ?_)
  · show ¬ Int32.ofInt z < 0
    rw [show (0 : Int32) = Int32.ofInt 0 from rfl, b_ltI hr (by decide)]
    omega
  · show (Int32.ofInt z).toNatClampNeg = N
    rw [b_cl hr, hz, Int.toNat_natCast]
  · have hcA := b_tysK (t := 3) (tys := []) hG.1 rfl (fun C h => by cases h) pK
    subst hcA
    refine b_grow hC hG hb ha0 hn hR hS hl hls (b_tl hst) h255 hfin ?_ ?_ p1 p2 p3 k
    · rw [b_en_l _ hs]
      simp only [b_nw_self, hdf]
      rfl
    · rw [b_wfo_l hs]
      intro j hj
      rw [b_nw_self, hdf]
      exact ⟨by decide, by decide⟩
theorem x_newaS {N : Nat} {z : Int} (hd : decode (bZ_M Z).2.1 pc = .ok (.newarray .short, 2)) (hs : b_sh n = (1, 4, N)) (hz : z = N) (h1 : Cond.arrayClass (newarray.typeOf .short) ∈ lw_all) (hby : Nat.ble (N * componentBytes .short) 536870912 = true) (h255 : n < 255) (hfin : ∀ p ∈ b_finL, b_thr p.1 = n + 1 → b_nw w n p.1 p.2.1 = p.2.2) (hu : u + 1 ≤ Z.2.1) (hv : v + N ≤ Z.2.2.1) (hq : pc + 2 = q)
    (k : b_X Z (n + 1) (u + 1) (v + N) q ls ((2, (n : Int)) :: st) (b_nw w n)) : b_X Z n u v pc ls ((0, z) :: st) w := by
  subst hq
  intro E p e s m args below meth c' H locs ad0 ad lsA hC hG hb ha0 hn hR hS hl hls hst
  have hr := b_ri (b_h0 hst)
  have hdf : ∀ j : Int, b_df n j = 0 := by
    intro j
    unfold b_df
    rw [hs]
    rfl
  rw [List.map_cons]
  refine va_newa (atype := .short) (ty := .short) (N' := N) (a0 := (N, .inl fun _ => 0)) hC.1 hC.2.1 (hC.2.2.2.2.2.1 _ h1) rfl hG.1 hR.1 hR.2.1 hS (fun q hq => Nat.le_trans hb hq) (fun cA => rfl) ?_ ?_ (Nat.le_of_ble_eq_true hby) hu hv hd (fun a cA H1 pK p1 p2 p3 => ?_)
  · show ¬ Int32.ofInt z < 0
    rw [show (0 : Int32) = Int32.ofInt 0 from rfl, b_ltI hr (by decide)]
    omega
  · show (Int32.ofInt z).toNatClampNeg = N
    rw [b_cl hr, hz, Int.toNat_natCast]
  · have hcA := b_tysK (t := 4) (tys := []) hG.1 rfl (fun C h => by cases h) pK
    subst hcA
    refine b_grow hC hG hb ha0 hn hR hS hl hls (b_tl hst) h255 hfin ?_ ?_ p1 p2 p3 k
    · rw [b_en_i _ hs]
      simp only [b_nw_self, hdf]
      rfl
    · rw [b_wfo_i hs]
      intro j hj
      rw [b_nw_self, hdf]
      exact ⟨by decide, by decide⟩
end BridgeNew
