section BridgeMath
variable {d n pc q : Nat} {M0 : bM} {Q : Int → bW → Prop} {X : String → bW → Prop} {ls st : List bV} {w : bW}
theorem b_hloc {k dd mc ms : Nat} {E : bE} {ad : Nat → Nat} (hr : Nat.ble (b_wds st) 8 = true) (hk : Nat.ble k 56 = true) : ((st.map (b_vl E ad)).map fun v => v.category).sum + k ≤ (b_rm (dd + 1) mc ms).locals := by
  rw [b_sum]
  have := Nat.le_of_ble_eq_true hr
  have := Nat.le_of_ble_eq_true hk
  have h64 : 64 ≤ (b_rm (dd + 1) mc ms).locals := by show 64 ≤ 64 * (dd + 1); omega
  omega
theorem y_mmax (idx : Nat) {x y : Int} (hd : decode M0.2.1 pc = .ok (.invokestatic idx, 3)) (h1 : Cond.methodLink M0.1.cls idx Lib.Math.max.name ∈ lw_all) (h2 : Cond.static Lib.Math.max.name ∈ lw_all) (h3 : Cond.initialized "java/lang/Math" ∈ lw_all) (h4 : Cond.code Lib.Math.max.name Lib.Math.max.code 2 (some .int) ∈ lw_all) (hr : Nat.ble (b_wds st) 8 = true) (hq : pc + 3 = q)
    (k : b_Y (d + 1) M0 n Q X q ls ((0, max x y) :: st) w) : b_Y (d + 1) M0 n Q X pc ls ((0, y) :: (0, x) :: st) w := by
  subst hq
  intro E p e s m args below meth c' H locs ad0 ad lsA hC hG hb ha0 hn hR hS hl hls hst
  have ry := b_ri (b_h0 hst)
  have rx := b_ri (b_h1 hst)
  have hk := k E p e s m args below meth c' H locs ad0 ad lsA hC hG hb ha0 hn hR hS hl hls (b_all0 (b_oki (by omega)) (b_tl (b_tl hst)))
  refine va_mmax hC.1 hC.2.1 (by rw [hC.2.2.2.1]; exact hl.1.symm) hC.2.2.2.2.1 (hC.2.2.2.2.2.1 _ h1) (hC.2.2.2.2.2.1 _ h2) (hC.2.2.2.2.2.1 _ h3) (hC.2.2.2.2.2.1 _ h4) (Nat.le_add_left 1 d) (b_hloc hr rfl) (Nat.le_refl 0) (Nat.le_refl 0) hd ?_
  have e0 : (if Int32.ofInt x < Int32.ofInt y then Int32.ofInt y else Int32.ofInt x) = Int32.ofInt (max x y) := by
    by_cases h : x < y
    · rw [if_pos ((b_ltI rx ry).mpr h), Int.max_eq_right (by omega)]
    · rw [if_neg (fun g => h ((b_ltI rx ry).mp g)), Int.max_eq_left (by omega)]
  rw [e0]
  exact hk
theorem y_mmin (idx : Nat) {x y : Int} (hd : decode M0.2.1 pc = .ok (.invokestatic idx, 3)) (h1 : Cond.methodLink M0.1.cls idx Lib.Math.min.name ∈ lw_all) (h2 : Cond.static Lib.Math.min.name ∈ lw_all) (h3 : Cond.initialized "java/lang/Math" ∈ lw_all) (h4 : Cond.code Lib.Math.min.name Lib.Math.min.code 2 (some .int) ∈ lw_all) (hr : Nat.ble (b_wds st) 8 = true) (hq : pc + 3 = q)
    (k : b_Y (d + 1) M0 n Q X q ls ((0, min x y) :: st) w) : b_Y (d + 1) M0 n Q X pc ls ((0, y) :: (0, x) :: st) w := by
  subst hq
  intro E p e s m args below meth c' H locs ad0 ad lsA hC hG hb ha0 hn hR hS hl hls hst
  have ry := b_ri (b_h0 hst)
  have rx := b_ri (b_h1 hst)
  have hk := k E p e s m args below meth c' H locs ad0 ad lsA hC hG hb ha0 hn hR hS hl hls (b_all0 (b_oki (by omega)) (b_tl (b_tl hst)))
  refine va_mmin hC.1 hC.2.1 (by rw [hC.2.2.2.1]; exact hl.1.symm) hC.2.2.2.2.1 (hC.2.2.2.2.2.1 _ h1) (hC.2.2.2.2.2.1 _ h2) (hC.2.2.2.2.2.1 _ h3) (hC.2.2.2.2.2.1 _ h4) (Nat.le_add_left 1 d) (b_hloc hr rfl) (Nat.le_refl 0) (Nat.le_refl 0) hd ?_
  have e0 : (if Int32.ofInt y < Int32.ofInt x then Int32.ofInt y else Int32.ofInt x) = Int32.ofInt (min x y) := by
    by_cases h : y < x
    · rw [if_pos ((b_ltI ry rx).mpr h), Int.min_eq_right (by omega)]
    · rw [if_neg (fun g => h ((b_ltI ry rx).mp g)), Int.min_eq_left (by omega)]
  rw [e0]
  exact hk
theorem y_mminl (idx : Nat) {x y : Int} (hd : decode M0.2.1 pc = .ok (.invokestatic idx, 3)) (h1 : Cond.methodLink M0.1.cls idx Lib.MathLoose.min_long.x ∈ lw_all) (h2 : Cond.static Lib.MathLoose.min_long.x ∈ lw_all) (h3 : Cond.initialized "java/lang/Math" ∈ lw_all) (h4 : Cond.code Lib.MathLoose.min_long.x Lib.MathLoose.min_long.code 4 (some .long) ∈ lw_all) (hr : Nat.ble (b_wds st) 8 = true) (hq : pc + 3 = q)
    (k : b_Y (d + 1) M0 n Q X q ls ((1, min x y) :: st) w) : b_Y (d + 1) M0 n Q X pc ls ((1, y) :: (1, x) :: st) w := by
  subst hq
  intro E p e s m args below meth c' H locs ad0 ad lsA hC hG hb ha0 hn hR hS hl hls hst
  have ry := b_rl (b_h0 hst)
  have rx := b_rl (b_h1 hst)
  have hk := k E p e s m args below meth c' H locs ad0 ad lsA hC hG hb ha0 hn hR hS hl hls (b_all0 (b_okl (by omega)) (b_tl (b_tl hst)))
  refine va_mmin_long hC.1 hC.2.1 (by rw [hC.2.2.2.1]; exact hl.1.symm) hC.2.2.2.2.1 (hC.2.2.2.2.2.1 _ h1) (hC.2.2.2.2.2.1 _ h2) (hC.2.2.2.2.2.1 _ h3) (hC.2.2.2.2.2.1 _ h4) (Nat.le_add_left 1 d) (b_hloc hr rfl) (Nat.le_refl 0) (Nat.le_refl 0) hd ?_
  have e0 : (if Int64.ofInt y < Int64.ofInt x then Int64.ofInt y else Int64.ofInt x) = Int64.ofInt (min x y) := by
    by_cases h : y < x
    · rw [if_pos (by rw [Int64.lt_iff_toInt_lt, b_toL ry, b_toL rx]; exact h), Int.min_eq_right (by omega)]
    · rw [if_neg (by rw [Int64.lt_iff_toInt_lt, b_toL ry, b_toL rx]; exact h), Int.min_eq_left (by omega)]
  rw [e0]
  exact hk
theorem y_mabs (idx : Nat) {x : Int} (hd : decode M0.2.1 pc = .ok (.invokestatic idx, 3)) (h1 : Cond.methodLink M0.1.cls idx Lib.Math.abs.name ∈ lw_all) (h2 : Cond.static Lib.Math.abs.name ∈ lw_all) (h3 : Cond.initialized "java/lang/Math" ∈ lw_all) (h4 : Cond.code Lib.Math.abs.name Lib.Math.abs.code 1 (some .int) ∈ lw_all) (hr : Nat.ble (b_wds st) 8 = true) (hq : pc + 3 = q)
    (k : b_Y (d + 1) M0 n Q X q ls ((0, if 0 ≤ x then x else b_i (-x)) :: st) w) : b_Y (d + 1) M0 n Q X pc ls ((0, x) :: st) w := by
  subst hq
  intro E p e s m args below meth c' H locs ad0 ad lsA hC hG hb ha0 hn hR hS hl hls hst
  have rx := b_ri (b_h0 hst)
  have e1 : Int32.ofInt (b_i (-x)) = 0 - Int32.ofInt x := by
    apply Int32.toInt_inj.mp
    rw [Int32.toInt_sub, b_toI rx]
    show (Int32.ofInt (b_i (-x))).toInt = Int.bmod (0 - x) (2 ^ 32)
    rw [Int32.toInt_ofInt, Int.zero_sub]
    unfold b_i
    exact Int.bmod_bmod
  have r1 : -2147483648 ≤ b_i (-x) ∧ b_i (-x) ≤ 2147483647 := by
    have := b_tr (Int32.ofInt (-x)); rw [Int32.toInt_ofInt] at this; exact this
  have hk := k E p e s m args below meth c' H locs ad0 ad lsA hC hG hb ha0 hn hR hS hl hls (b_all0 (b_oki (by split <;> omega)) (b_tl hst))
  refine va_mabs hC.1 hC.2.1 (by rw [hC.2.2.2.1]; exact hl.1.symm) hC.2.2.2.2.1 (hC.2.2.2.2.2.1 _ h1) (hC.2.2.2.2.2.1 _ h2) (hC.2.2.2.2.2.1 _ h3) (hC.2.2.2.2.2.1 _ h4) (Nat.le_add_left 1 d) (b_hloc hr rfl) (Nat.le_refl 0) (Nat.le_refl 0) hd ?_
  have e0 : (if 0 ≤ Int32.ofInt x then Int32.ofInt x else 0 - Int32.ofInt x) = Int32.ofInt (if 0 ≤ x then x else b_i (-x)) := by
    by_cases h : 0 ≤ x
    · rw [if_pos h, if_pos (by rw [Int32.le_iff_toInt_le, b_toI rx]; exact h)]
    · rw [if_neg h, if_neg (by rw [Int32.le_iff_toInt_le, b_toI rx]; exact h), e1]
  rw [e0]
  exact hk
variable {Z : bZ} {u v : Nat}
/-- after a call outside the method's handlers -/
theorem b_afterO {E : bE} {p : Program} {e : Env} {s : State} {m : MethodId} {args : Array Value} {below : List Frame} {meth : Method} {c : Code} {H : Heap} {locs : List Loc} {ad0 ad : Nat → Nat} {lsA : Array Slot} {M : bM} {mc ms : Nat} {As : Array Value} {rest : List bV} {st0 : List Value} {X : String → Nat → bW → Prop}
    (hC : b_Cx (bZ_M Z) p s m args meth c) (hh : ∀ x ∈ tableOf (bZ_M Z).2.2.2.2, covers x pc = false) (hG : b_G E s H) (hb : bE_b E ≤ s.heap.size) (ha0 : ∀ i, i < Z.2.2.2.2.1 → ad i = ad0 i) (hn : Z.2.2.2.2.1 ≤ n) (hS : va_S (bA E) s.heap H locs) (hl : lv_has lsA (bZ_M Z).2.2.1 (b_lvs E ad 0 ls)) (hls : ∀ x ∈ ls, b_okv n x) (hst : ∀ x ∈ rest, b_okv n x) (hu : u + mc ≤ Z.2.1) (hv : v + ms ≤ Z.2.2.1) (hq : pc + 3 = q)
    (hX : ∀ C n' w', X C n' w' → Z.2.2.2.2.2.2 C n' w')
    (hr : vx_Run p (bE_l E) e (b_rm Z.1 Z.2.1 Z.2.2.1) s m args below meth c H locs u v mc ms (F0 m pc lsA st0) (rest.map (b_vl E ad)) (b_Qc E ad n M (fun r n' w' => b_X Z n' (u + mc) (v + ms) q ls (b_res M.2.2.2.1 r rest) w') As) (b_XC E ad n X) (bA E)) :
    W p (bE_l E) e (b_rm Z.1 Z.2.1 Z.2.2.1) s m args below meth c H locs u v (vx_MQ below (b_Qc E ad0 Z.2.2.2.2.1 (bZ_M Z) Z.2.2.2.2.2.1) (b_XC E ad0 Z.2.2.2.2.1 Z.2.2.2.2.2.2) args s Z.2.1 Z.2.2.1 (bA E)) (F0 m pc lsA st0) := by
  subst hq
  intro T hT X'
  have keep : ∀ {st₀ t T' : State} {L : List Loc}, st₀.heap = H → T'.heap = t.heap → (∀ q ∈ L, bA E q.base) → va_F (bA E) st₀ t → va_S (bA E) s.heap T'.heap (locs ++ L) := fun h0 e1 hL hF => (vx_keep h0 e1 hS (fun _ _ h => h) (fun _ h => h) hL hF).2.2
  rcases hr T hT X' with ⟨r, st₀, t, T', L, h0, X1, hL, e1, e2, ⟨x, n', w', ad', hrr, ha, hnn, hR', hF, hok, hQ⟩, go⟩ | ⟨qq, st₀, t, T', L, C, ce, h0, X1, hL, e1, e2, ⟨n', w', ad', ha, hnn, hR', hF, hQ⟩, hce, hcv, hcl, go⟩
  · have hrr := Outcome.returned.inj hrr
    subst hrr
    have hS' := keep h0 e1 hL hF
    have hmono : ∀ y, b_okv n y → b_okv n' y := fun y h => b_okv_mono h hnn
    have hls' : lv_has lsA (bZ_M Z).2.2.1 (b_lvs E ad' 0 ls) := by rw [b_lvs_agree ha ls 0 hls]; exact hl
    have key := hQ E p e s m args below meth c T'.heap (locs ++ L) ad0 ad' lsA hC (b_G_of_S hG hb hS hS') hb (fun i hi => (ha i (by omega)).trans (ha0 i hi)) (by omega) (by rw [e1]; exact hR') hS' hls' (fun y hy => hmono y (hls y hy)) (b_res_ok hok (fun y hy => hmono y (hst y hy)))
    rw [b_res_map, b_map_agree hst ha] at key
    obtain ⟨t2, a1, b1⟩ := key T' rfl X1
    exact ⟨t2, go t2 a1, b1⟩
  · have hS' := keep h0 e1 hL hF
    have hout : ∀ x ∈ c.exceptionTable.toList, covers x pc = false := by
      rw [hC.2.2.2.2.2.2.2.1]
      exact hh
    have key : vx_W p (bE_l E) e (b_rm Z.1 Z.2.1 Z.2.2.1) s m args below meth c T'.heap (locs ++ L) (u + mc) (v + ms) (vx_MQ below (b_Qc E ad0 Z.2.2.2.2.1 (bZ_M Z) Z.2.2.2.2.2.1) (b_XC E ad0 Z.2.2.2.2.1 Z.2.2.2.2.2.2) args s Z.2.1 Z.2.2.1 (bA E)) (F0 m pc lsA (rest.map (b_vl E ad))) qq :=
      vx_out hout hC.2.2.2.2.2.2.1 (by rw [e1]; exact hce) hcv hcl (fun t9 h9 _ => ⟨n', w', ad', fun i hi => (ha i (by omega)).trans (ha0 i hi), by omega, by rw [h9, e1]; exact hR', hS'.F h9, hX _ _ _ hQ⟩) hS'.2.2 hu hv
    obtain ⟨t2, a1, b1⟩ := key T' rfl X1
    exact ⟨t2, go.trans a1, b1⟩
/-- a call through an object -/
theorem x_invVO (idx : Nat) {M : bM} {d mc ms c N : Nat} {C : String} {T : u_T} {o : Int} {As stk : List bV} {X : String → Nat → bW → Prop} (hd : decode (bZ_M Z).2.1 pc = .ok (.invokevirtual idx, 3)) (ho : b_is n o 0 c N) (hc : vwCl[c]? = some (C, T, N))
    (h1 : Cond.methodLink (bZ_M Z).1.cls idx M.1 ∈ lw_all) (h2 : Cond.instanceMethod M.1 ∈ lw_all) (h3 : Cond.selects C M.1 M.1 ∈ lw_all) (h4 : Cond.initialized C ∈ lw_all) (h5 : Cond.code M.1 M.2.1 M.2.2.1 M.2.2.2.1 ∈ lw_all)
    (hm : M.1.cls = C ∧ M.1.cls ≠ "java/lang/invoke/MethodHandle" ∧ M.1.cls ≠ "java/lang/invoke/VarHandle" ∧ (parseMethodDescriptor M.1.desc).map (fun d => d.parameters.length) = some As.length)
    (hh : M.2.2.2.2 = []) (hh' : ∀ x ∈ tableOf (bZ_M Z).2.2.2.2, covers x pc = false) (hdd : Z.1 = d + 1) (hL : Nat.ble M.2.2.1 45 = true) (hs : As.reverse ++ (2, o) :: st = stk) (hr : Nat.ble (b_wds st) 8 = true) (hu : u + mc ≤ Z.2.1) (hv : v + ms ≤ Z.2.2.1) (hq : pc + 3 = q)
    (hX : ∀ C n' w', X C n' w' → Z.2.2.2.2.2.2 C n' w')
    (k : b_C d mc ms M ((2, o) :: As) n w (fun r n' w' => b_X Z n' (u + mc) (v + ms) q ls (b_res M.2.2.2.1 r st) w') X) : b_X Z n u v pc ls stk w := by
  subst hs
  obtain ⟨i0, i1, i2⟩ := ho
  intro E p e s m args below meth c' H locs ad0 ad lsA hC hG hb ha0 hn hR hS hl hls hst
  have hAs : ∀ x ∈ As, b_okv n x := fun x hx => hst x (List.mem_append_left _ (List.mem_reverse.mpr hx))
  have hrest : ∀ x ∈ (2, o) :: st, b_okv n x := fun x hx => hst x (List.mem_append_right _ hx)
  have hM := k E ad (fun x hx => by
    rcases List.mem_cons.mp hx with e | e
    · rw [e]; exact b_h0 hrest
    · exact hAs x e)
  have hwl : b_wsl M = Cond.code M.1 M.2.1 M.2.2.1 M.2.2.2.1 :: lw_all := by unfold b_wsl; rw [hh]
  rw [hwl] at hM
  have hat := b_ws_at (E := E) (ad := ad) (w := w) i1
  rw [b_en_o w i2] at hat
  rw [List.map_cons, b_vl2 i0] at hM
  refine b_afterO (M := M) (mc := mc) (ms := ms) (rest := st) (X := X) (q := q) hC hh' hG hb ha0 hn hS hl hls (b_tl hrest) hu hv hq hX
    (vx_runV (As := As.map (b_vl E ad)) (rest := st.map (b_vl E ad)) (Ts := lw_all) (nL := (bZ_M Z).2.2.1) ⟨hC.1, hC.2.1, hC.2.2.2.1, hC.2.2.2.2.1, hC.2.2.2.2.2.1⟩ hM (cwV (C := C) (rm := b_rm d mc ms) As.length hC.2.2.2.2.2.1 (lw_V h1 h2 h3 h4 h5) rfl rfl rfl hm (b_room hdd hL)) ⟨b_blind, va_recv hG.1 hR.1 hc hat, fun U hU hW => ⟨rfl, by rw [hU]; exact hG.down hW, by rw [hU]; exact hR⟩⟩ rfl (by simp) hl.1 ?_ ?_ hd ⟨hu, hv⟩)
  · simp [b_vl2 i0]
  · have : ∀ l : List bV, ((l.map (b_vl E ad)).map fun v => v.category).sum = b_wds l := by
      intro l
      induction l with
      | nil => rfl
      | cons x r ih =>
        rw [List.map_cons, List.map_cons, List.sum_cons, ih, b_wds]
        split
        · rename_i h; rw [b_cat2 E ad h]
        · rename_i h; rw [b_cat1 E ad (b_beq1 h)]
    exact lv_room (by rw [this]; exact Nat.le_of_ble_eq_true hr)
/-- after a call that may throw into the method's one handler -/
theorem b_afterC {E : bE} {p : Program} {e : Env} {s : State} {m : MethodId} {args : Array Value} {below : List Frame} {meth : Method} {c : Code} {H : Heap} {locs : List Loc} {ad0 ad : Nat → Nat} {lsA : Array Slot} {M : bM} {mc ms : Nat} {As : Array Value} {rest : List bV} {st0 : List Value} {X : String → Nat → bW → Prop} {a0 a1 hp ct : Nat} {Cx : String}
    (hC : b_Cx (bZ_M Z) p s m args meth c) (hh : (bZ_M Z).2.2.2.2 = [(a0, a1, hp, ct)]) (hpc : (Nat.ble a0 pc && Nat.blt pc a1 && !(Nat.beq ct 0)) = true) (hlk : Cond.classLink (bZ_M Z).1.cls ct Cx ∈ lw_all) (hcs : (Cx, Cx) ∈ b_nwC) (hG : b_G E s H) (hb : bE_b E ≤ s.heap.size) (ha0 : ∀ i, i < Z.2.2.2.2.1 → ad i = ad0 i) (hn : Z.2.2.2.2.1 ≤ n) (hS : va_S (bA E) s.heap H locs) (hl : lv_has lsA (bZ_M Z).2.2.1 (b_lvs E ad 0 ls)) (hls : ∀ x ∈ ls, b_okv n x) (hst : ∀ x ∈ rest, b_okv n x) (hq : pc + 3 = q)
    (hX : ∀ C n' w', X C n' w' → C = Cx ∧ ∀ a : Int, b_X Z n' (u + mc) (v + ms) hp ls [(7, a)] w')
    (hr : vx_Run p (bE_l E) e (b_rm Z.1 Z.2.1 Z.2.2.1) s m args below meth c H locs u v mc ms (F0 m pc lsA st0) (rest.map (b_vl E ad)) (b_Qc E ad n M (fun r n' w' => b_X Z n' (u + mc) (v + ms) q ls (b_res M.2.2.2.1 r rest) w') As) (b_XC E ad n X) (bA E)) :
    W p (bE_l E) e (b_rm Z.1 Z.2.1 Z.2.2.1) s m args below meth c H locs u v (vx_MQ below (b_Qc E ad0 Z.2.2.2.2.1 (bZ_M Z) Z.2.2.2.2.2.1) (b_XC E ad0 Z.2.2.2.2.1 Z.2.2.2.2.2.2) args s Z.2.1 Z.2.2.1 (bA E)) (F0 m pc lsA st0) := by
  subst hq
  intro T hT X'
  have keep : ∀ {st₀ t T' : State} {L : List Loc}, st₀.heap = H → T'.heap = t.heap → (∀ q ∈ L, bA E q.base) → va_F (bA E) st₀ t → va_S (bA E) s.heap T'.heap (locs ++ L) := fun h0 e1 hL hF => (vx_keep h0 e1 hS (fun _ _ h => h) (fun _ h => h) hL hF).2.2
  rcases hr T hT X' with ⟨r, st₀, t, T', L, h0, X1, hL, e1, e2, ⟨x, n', w', ad', hrr, ha, hnn, hR', hF, hok, hQ⟩, go⟩ | ⟨qq, st₀, t, T', L, C, ce, h0, X1, hL, e1, e2, ⟨n', w', ad', ha, hnn, hR', hF, hQ⟩, hce, hcv, hcl, go⟩
  · have hrr := Outcome.returned.inj hrr
    subst hrr
    have hS' := keep h0 e1 hL hF
    have hmono : ∀ y, b_okv n y → b_okv n' y := fun y h => b_okv_mono h hnn
    have hls' : lv_has lsA (bZ_M Z).2.2.1 (b_lvs E ad' 0 ls) := by rw [b_lvs_agree ha ls 0 hls]; exact hl
    have key := hQ E p e s m args below meth c T'.heap (locs ++ L) ad0 ad' lsA hC (b_G_of_S hG hb hS hS') hb (fun i hi => (ha i (by omega)).trans (ha0 i hi)) (by omega) (by rw [e1]; exact hR') hS' hls' (fun y hy => hmono y (hls y hy)) (b_res_ok hok (fun y hy => hmono y (hst y hy)))
    rw [b_res_map, b_map_agree hst ha] at key
    obtain ⟨t2, a1, b1⟩ := key T' rfl X1
    exact ⟨t2, go t2 a1, b1⟩
  · have hS' := keep h0 e1 hL hF
    obtain ⟨rfl, hQ⟩ := hX _ _ _ hQ
    have hmono : ∀ y, b_okv n y → b_okv n' y := fun y h => b_okv_mono h hnn
    have hls' : lv_has lsA (bZ_M Z).2.2.1 (b_lvs E ad' 0 ls) := by rw [b_lvs_agree ha ls 0 hls]; exact hl
    have key := hQ (qq : Int) E p e s m args below meth c T'.heap (locs ++ L) ad0 ad' lsA hC (b_G_of_S hG hb hS hS') hb (fun i hi => (ha i (by omega)).trans (ha0 i hi)) (by omega) (by rw [e1]; exact hR') hS' hls' (fun y hy => hmono y (hls y hy)) (b_all0 (b_okt rfl) (fun y hy => by cases hy))
    have e7 : b_vl E ad' (7, (qq : Int)) = .ref qq := by show Value.ref (qq : Int).toNat = _; rw [Int.toNat_natCast]
    rw [List.map_cons, List.map_nil, e7] at key
    rw [Bool.and_eq_true, Bool.and_eq_true] at hpc
    have h1 := Nat.le_of_ble_eq_true hpc.1.1
    have h2 := Nat.le_of_ble_eq_true hpc.1.2
    have h3 : ct ≠ 0 := by
      intro e
      rw [e] at hpc
      exact absurd hpc.2 (by decide)
    have key : vx_W p (bE_l E) e (b_rm Z.1 Z.2.1 Z.2.2.1) s m args below meth c T'.heap (locs ++ L) (u + mc) (v + ms) (vx_MQ below (b_Qc E ad0 Z.2.2.2.2.1 (bZ_M Z) Z.2.2.2.2.2.1) (b_XC E ad0 Z.2.2.2.2.1 Z.2.2.2.2.2.2) args s Z.2.1 Z.2.2.1 (bA E)) (F0 m pc lsA (rest.map (b_vl E ad))) qq :=
      vx_catch hC.2.2.2.2.1 [] _ [] (by rw [hC.2.2.2.2.2.2.2.1, hh]; rfl) (fun z hz => by cases hz) (by simp [covers]; omega) h3 (hC.2.2.2.2.2.1 _ hlk) (va_Nw.use (A := args) rfl (hG.2.1.2.2.2.2.2.2.2.2.2.2.2.2.2.2.1 _ hcs)) (by rw [e1]; exact hce) hcv hcl key
    obtain ⟨t2, a1, b1⟩ := key T' rfl X1
    exact ⟨t2, go.trans a1, b1⟩
/-- a call through an object; the method called has handlers, the caller none -/
theorem x_invVH (idx : Nat) {M : bM} {d mc ms c N : Nat} {C : String} {T : u_T} {o : Int} {As stk : List bV} {X : String → Nat → bW → Prop} (hd : decode (bZ_M Z).2.1 pc = .ok (.invokevirtual idx, 3)) (ho : b_is n o 0 c N) (hc : vwCl[c]? = some (C, T, N))
    (h1 : Cond.methodLink (bZ_M Z).1.cls idx M.1 ∈ lw_all) (h2 : Cond.instanceMethod M.1 ∈ lw_all) (h3 : Cond.selects C M.1 M.1 ∈ lw_all) (h4 : Cond.initialized C ∈ lw_all) (h5 : Cond.codeWith M.1 M.2.1 M.2.2.1 M.2.2.2.1 M.2.2.2.2 ∈ lw_all)
    (hm : M.1.cls = C ∧ M.1.cls ≠ "java/lang/invoke/MethodHandle" ∧ M.1.cls ≠ "java/lang/invoke/VarHandle" ∧ (parseMethodDescriptor M.1.desc).map (fun d => d.parameters.length) = some As.length)
    (hwl : b_wsl M = wsW_ M.1 M.2.1 M.2.2.1 M.2.2.2.1 M.2.2.2.2) (hh' : (bZ_M Z).2.2.2.2 = []) (hdd : Z.1 = d + 1) (hL : Nat.ble M.2.2.1 45 = true) (hs : As.reverse ++ (2, o) :: st = stk) (hr : Nat.ble (b_wds st) 8 = true) (hu : u + mc ≤ Z.2.1) (hv : v + ms ≤ Z.2.2.1) (hq : pc + 3 = q)
    (hX : ∀ C n' w', X C n' w' → Z.2.2.2.2.2.2 C n' w')
    (k : b_C d mc ms M ((2, o) :: As) n w (fun r n' w' => b_X Z n' (u + mc) (v + ms) q ls (b_res M.2.2.2.1 r st) w') X) : b_X Z n u v pc ls stk w := by
  subst hs
  obtain ⟨i0, i1, i2⟩ := ho
  intro E p e s m args below meth c' H locs ad0 ad lsA hC hG hb ha0 hn hR hS hl hls hst
  have hAs : ∀ x ∈ As, b_okv n x := fun x hx => hst x (List.mem_append_left _ (List.mem_reverse.mpr hx))
  have hrest : ∀ x ∈ (2, o) :: st, b_okv n x := fun x hx => hst x (List.mem_append_right _ hx)
  have hM := k E ad (fun x hx => by
    rcases List.mem_cons.mp hx with e | e
    · rw [e]; exact b_h0 hrest
    · exact hAs x e)
  rw [hwl] at hM
  have hat := b_ws_at (E := E) (ad := ad) (w := w) i1
  rw [b_en_o w i2] at hat
  rw [List.map_cons, b_vl2 i0] at hM
  refine b_after (M := M) (mc := mc) (ms := ms) (rest := st) (X := X) (q := q) hC hh' hG hb ha0 hn hS hl hls (b_tl hrest) hu hv hq hX
    (vx_runVX (hh := M.2.2.2.2) (As := As.map (b_vl E ad)) (rest := st.map (b_vl E ad)) (Ts := lw_all) (nL := (bZ_M Z).2.2.1) ⟨hC.1, hC.2.1, hC.2.2.2.1, hC.2.2.2.2.1, hC.2.2.2.2.2.1⟩ hM (vx_cwVW (C := C) (rm := b_rm d mc ms) As.length hC.2.2.2.2.2.1 (lw_VW h1 h2 h3 h4 h5) rfl rfl rfl hm (b_room hdd hL)) ⟨b_blind, va_recv hG.1 hR.1 hc hat, fun U hU hW => ⟨rfl, by rw [hU]; exact hG.down hW, by rw [hU]; exact hR⟩⟩ rfl (by simp) hl.1 ?_ ?_ hd ⟨hu, hv⟩)
  · simp [b_vl2 i0]
  · exact lv_room (by rw [b_sum]; exact Nat.le_of_ble_eq_true hr)
/-- a call through an object inside the caller's handler -/
theorem x_invVC (idx : Nat) {M : bM} {d mc ms c N : Nat} {C : String} {T : u_T} {o : Int} {As stk : List bV} {X : String → Nat → bW → Prop} {a0 a1 hp ct : Nat} {Cx : String} (hd : decode (bZ_M Z).2.1 pc = .ok (.invokevirtual idx, 3)) (ho : b_is n o 0 c N) (hc : vwCl[c]? = some (C, T, N))
    (h1 : Cond.methodLink (bZ_M Z).1.cls idx M.1 ∈ lw_all) (h2 : Cond.instanceMethod M.1 ∈ lw_all) (h3 : Cond.selects C M.1 M.1 ∈ lw_all) (h4 : Cond.initialized C ∈ lw_all) (h5 : Cond.code M.1 M.2.1 M.2.2.1 M.2.2.2.1 ∈ lw_all)
    (hm : M.1.cls = C ∧ M.1.cls ≠ "java/lang/invoke/MethodHandle" ∧ M.1.cls ≠ "java/lang/invoke/VarHandle" ∧ (parseMethodDescriptor M.1.desc).map (fun d => d.parameters.length) = some As.length)
    (hh : M.2.2.2.2 = []) (hh' : (bZ_M Z).2.2.2.2 = [(a0, a1, hp, ct)]) (hpc : (Nat.ble a0 pc && Nat.blt pc a1 && !(Nat.beq ct 0)) = true) (hlk : Cond.classLink (bZ_M Z).1.cls ct Cx ∈ lw_all) (hcs : (Cx, Cx) ∈ b_nwC) (hdd : Z.1 = d + 1) (hL : Nat.ble M.2.2.1 45 = true) (hs : As.reverse ++ (2, o) :: st = stk) (hr : Nat.ble (b_wds st) 8 = true) (hu : u + mc ≤ Z.2.1) (hv : v + ms ≤ Z.2.2.1) (hq : pc + 3 = q)
    (hX : ∀ C n' w', X C n' w' → C = Cx ∧ ∀ a : Int, b_X Z n' (u + mc) (v + ms) hp ls [(7, a)] w')
    (k : b_C d mc ms M ((2, o) :: As) n w (fun r n' w' => b_X Z n' (u + mc) (v + ms) q ls (b_res M.2.2.2.1 r st) w') X) : b_X Z n u v pc ls stk w := by
  subst hs
  obtain ⟨i0, i1, i2⟩ := ho
  intro E p e s m args below meth c' H locs ad0 ad lsA hC hG hb ha0 hn hR hS hl hls hst
  have hAs : ∀ x ∈ As, b_okv n x := fun x hx => hst x (List.mem_append_left _ (List.mem_reverse.mpr hx))
  have hrest : ∀ x ∈ (2, o) :: st, b_okv n x := fun x hx => hst x (List.mem_append_right _ hx)
  have hM := k E ad (fun x hx => by
    rcases List.mem_cons.mp hx with e | e
    · rw [e]; exact b_h0 hrest
    · exact hAs x e)
  have hwl : b_wsl M = Cond.code M.1 M.2.1 M.2.2.1 M.2.2.2.1 :: lw_all := by unfold b_wsl; rw [hh]
  rw [hwl] at hM
  have hat := b_ws_at (E := E) (ad := ad) (w := w) i1
  rw [b_en_o w i2] at hat
  rw [List.map_cons, b_vl2 i0] at hM
  refine b_afterC (M := M) (mc := mc) (ms := ms) (rest := st) (X := X) (q := q) hC hh' hpc hlk hcs hG hb ha0 hn hS hl hls (b_tl hrest) hq hX
    (vx_runV (As := As.map (b_vl E ad)) (rest := st.map (b_vl E ad)) (Ts := lw_all) (nL := (bZ_M Z).2.2.1) ⟨hC.1, hC.2.1, hC.2.2.2.1, hC.2.2.2.2.1, hC.2.2.2.2.2.1⟩ hM (cwV (C := C) (rm := b_rm d mc ms) As.length hC.2.2.2.2.2.1 (lw_V h1 h2 h3 h4 h5) rfl rfl rfl hm (b_room hdd hL)) ⟨b_blind, va_recv hG.1 hR.1 hc hat, fun U hU hW => ⟨rfl, by rw [hU]; exact hG.down hW, by rw [hU]; exact hR⟩⟩ rfl (by simp) hl.1 ?_ ?_ hd ⟨hu, hv⟩)
  · simp [b_vl2 i0]
  · exact lv_room (by rw [b_sum]; exact Nat.le_of_ble_eq_true hr)
/-- the entry of a method with handlers -/
theorem c_ofH {d mc ms n : Nat} {M : bM} {args : List bV} {w : bW} {Q : Int → Nat → bW → Prop} {X : String → Nat → bW → Prop} (hy : plainName M.1.cls = true) (hwl : b_wsl M = wsW_ M.1 M.2.1 M.2.2.1 M.2.2.2.1 M.2.2.2.2) (h9 : args.all (fun x => !(Nat.beq x.1 9)) = true) (hw : Nat.ble (b_wds args) M.2.2.1 = true)
    {ls : List bV} (hls : b_ent args M.2.2.1 = ls) (k : b_X (d, mc, ms, M, n, Q, X) n 0 0 0 ls [] w) : b_C d mc ms M args n w Q X := by
  subst hls
  intro E ad hargs
  rw [hwl]
  have h9' : ∀ x ∈ args, x.1 ≠ 9 := by
    intro x hx e
    have := List.all_eq_true.mp h9 x hx
    rw [e] at this
    cases this
  refine vx_ofWH (cc := M.2.1) (maxL := M.2.2.1) (ret := M.2.2.2.1) hy rfl ?_
  intro p e s m a below meth c s₁ B hml hv
  obtain ⟨rfl, hG, hR⟩ := hv
  have hts0 := atoms_spec (ws := Cond.codeWith M.1 M.2.1 M.2.2.1 M.2.2.2.1 M.2.2.2.2 :: lw_all) B.pre
  have ht := vx_table (x := M.1) B (hts0 _ List.mem_cons_self)
  have hts : ∀ w ∈ lw_all, w.before _ s = true := fun w h => hts0 w (List.mem_cons_of_mem _ h)
  have hown : s.vm.findClass M.1.cls = some m.cls := findClass_of_methodNamed B.named
  have hin : meth.name = M.1.name := (name_of_methodNamed B.named B.method).1
  have hl := lv_entry (args.map (b_vl E ad)) (n := M.2.2.1) (by rw [b_wds_len]; exact Nat.le_of_ble_eq_true hw)
  rw [lg_entry_eq]
  generalize (lg_sl (args.map (b_vl E ad)) ++ List.replicate (M.2.2.1 - (lg_sl (args.map (b_vl E ad))).length) Slot.unset).toArray = lsA at hl ⊢
  exact k E p e s m _ below meth c s.heap [] ad ad lsA ⟨B.exec, B.bytes, B.returns, hml, hown, hts, B.notSynchronized, ht, hin⟩ hG hG.2.2 (fun _ _ => rfl) (Nat.le_refl _) hR va_S.rf (by rw [b_lvs_ent E ad args _ 0 h9']; exact hl) (b_ok_ent args _ hargs) (fun x hx => by cases hx)
variable {d : Nat} {Q : Int → bW → Prop} {X : String → bW → Prop} {M0 : bM}
theorem k_ofH {M : bM} {args : List bV} (hy : plainName M.1.cls = true) (hwl : b_wsl M = wsW_ M.1 M.2.1 M.2.2.1 M.2.2.2.1 M.2.2.2.2) (h9 : args.all (fun x => !(Nat.beq x.1 9)) = true) (hw : Nat.ble (b_wds args) M.2.2.1 = true)
    (hls : b_ent args M.2.2.1 = ls) (k : b_Y d M n Q X 0 ls [] w) : b_K d M args n w Q X := c_ofH hy hwl h9 hw hls k
theorem y_VHv (idx : Nat) {M : bM} {c N : Nat} {C : String} {T : u_T} {o : Int} {As stk : List bV} (hd : decode M0.2.1 pc = .ok (.invokevirtual idx, 3)) (ho : b_is n o 0 c N) (hc : vwCl[c]? = some (C, T, N))
    (h1 : Cond.methodLink M0.1.cls idx M.1 ∈ lw_all) (h2 : Cond.instanceMethod M.1 ∈ lw_all) (h3 : Cond.selects C M.1 M.1 ∈ lw_all) (h4 : Cond.initialized C ∈ lw_all) (h5 : Cond.codeWith M.1 M.2.1 M.2.2.1 M.2.2.2.1 M.2.2.2.2 ∈ lw_all)
    (hC : M.1.cls = C) (hm : M.1.cls ≠ "java/lang/invoke/MethodHandle" ∧ M.1.cls ≠ "java/lang/invoke/VarHandle" ∧ (parseMethodDescriptor M.1.desc).map (fun d => d.parameters.length) = some As.length)
    (hwl : b_wsl M = wsW_ M.1 M.2.1 M.2.2.1 M.2.2.2.1 M.2.2.2.2) (hh' : M0.2.2.2.2 = []) (hL : Nat.ble M.2.2.1 45 = true) (h0 : M.2.2.2.1 = none) (hs : As.reverse ++ (2, o) :: st = stk) (hr : Nat.ble (b_wds st) 8 = true) (hq : pc + 3 = q)
    (k : b_K d M ((2, o) :: As) n w (fun r w1 => b_Y (d + 1) M0 n Q X q ls (st) w1) X) : b_Y (d + 1) M0 n Q X pc ls stk w := by
  refine x_invVH (Z := b_Z (d + 1) M0 n Q X) (mc := 0) (ms := 0) idx hd ho hc h1 h2 h3 h4 h5 ⟨hC, hm⟩ hwl hh' rfl hL hs hr (Nat.le_refl 0) (Nat.le_refl 0) hq (fun C n' w' h => h) (c_mono k (fun r n' w' h => ?_) (fun _ _ _ h => h))
  obtain ⟨rfl, h⟩ := h
  rw [b_res_n h0]
  exact h
theorem y_VvC (idx : Nat) {M : bM} {c N : Nat} {C : String} {T : u_T} {o : Int} {As stk : List bV} {a0 a1 hp ct : Nat} {Cx : String} (hd : decode M0.2.1 pc = .ok (.invokevirtual idx, 3)) (ho : b_is n o 0 c N) (hc : vwCl[c]? = some (C, T, N))
    (h1 : Cond.methodLink M0.1.cls idx M.1 ∈ lw_all) (h2 : Cond.instanceMethod M.1 ∈ lw_all) (h3 : Cond.selects C M.1 M.1 ∈ lw_all) (h4 : Cond.initialized C ∈ lw_all) (h5 : Cond.code M.1 M.2.1 M.2.2.1 M.2.2.2.1 ∈ lw_all)
    (hC : M.1.cls = C) (hm : M.1.cls ≠ "java/lang/invoke/MethodHandle" ∧ M.1.cls ≠ "java/lang/invoke/VarHandle" ∧ (parseMethodDescriptor M.1.desc).map (fun d => d.parameters.length) = some As.length)
    (hh : M.2.2.2.2 = []) (hh' : M0.2.2.2.2 = [(a0, a1, hp, ct)]) (hpc : (Nat.ble a0 pc && Nat.blt pc a1 && !(Nat.beq ct 0)) = true) (hlk : Cond.classLink M0.1.cls ct Cx ∈ lw_all) (hcs : (Cx, Cx) ∈ b_nwC)
    (hL : Nat.ble M.2.2.1 45 = true) (h0 : M.2.2.2.1 = none) (hs : As.reverse ++ (2, o) :: st = stk) (hr : Nat.ble (b_wds st) 8 = true) (hq : pc + 3 = q)
    (k : b_K d M ((2, o) :: As) n w (fun r w1 => b_Y (d + 1) M0 n Q X q ls (st) w1) (fun C w1 => C = Cx ∧ ∀ a : Int, b_Y (d + 1) M0 n Q X hp ls [(7, a)] w1)) : b_Y (d + 1) M0 n Q X pc ls stk w := by
  refine x_invVC (Z := b_Z (d + 1) M0 n Q X) (mc := 0) (ms := 0) (X := fun C n1 w1 => n1 = n ∧ C = Cx ∧ ∀ a : Int, b_Y (d + 1) M0 n Q X hp ls [(7, a)] w1) idx hd ho hc h1 h2 h3 h4 h5 ⟨hC, hm⟩ hh hh' hpc hlk hcs rfl hL hs hr (Nat.le_refl 0) (Nat.le_refl 0) hq (fun C n' w' h => ?_) (c_mono k (fun r n' w' h => ?_) (fun _ _ _ h => h))
  · obtain ⟨rfl, h1, h2⟩ := h
    exact ⟨h1, h2⟩
  · obtain ⟨rfl, h⟩ := h
    rw [b_res_n h0]
    exact h
theorem y_VvO (idx : Nat) {M : bM} {c N : Nat} {C : String} {T : u_T} {o : Int} {As stk : List bV} (hd : decode M0.2.1 pc = .ok (.invokevirtual idx, 3)) (ho : b_is n o 0 c N) (hc : vwCl[c]? = some (C, T, N))
    (h1 : Cond.methodLink M0.1.cls idx M.1 ∈ lw_all) (h2 : Cond.instanceMethod M.1 ∈ lw_all) (h3 : Cond.selects C M.1 M.1 ∈ lw_all) (h4 : Cond.initialized C ∈ lw_all) (h5 : Cond.code M.1 M.2.1 M.2.2.1 M.2.2.2.1 ∈ lw_all)
    (hC : M.1.cls = C) (hm : M.1.cls ≠ "java/lang/invoke/MethodHandle" ∧ M.1.cls ≠ "java/lang/invoke/VarHandle" ∧ (parseMethodDescriptor M.1.desc).map (fun d => d.parameters.length) = some As.length)
    (hh : M.2.2.2.2 = []) (hh' : ∀ x ∈ tableOf M0.2.2.2.2, covers x pc = false) (hL : Nat.ble M.2.2.1 45 = true) (h0 : M.2.2.2.1 = none) (hs : As.reverse ++ (2, o) :: st = stk) (hr : Nat.ble (b_wds st) 8 = true) (hq : pc + 3 = q)
    (k : b_K d M ((2, o) :: As) n w (fun r w1 => b_Y (d + 1) M0 n Q X q ls (st) w1) X) : b_Y (d + 1) M0 n Q X pc ls stk w := by
  refine x_invVO (Z := b_Z (d + 1) M0 n Q X) (mc := 0) (ms := 0) idx hd ho hc h1 h2 h3 h4 h5 ⟨hC, hm⟩ hh hh' rfl hL hs hr (Nat.le_refl 0) (Nat.le_refl 0) hq (fun C n' w' h => h) (c_mono k (fun r n' w' h => ?_) (fun _ _ _ h => h))
  obtain ⟨rfl, h⟩ := h
  rw [b_res_n h0]
  exact h
theorem y_ViO (idx : Nat) {M : bM} {c N : Nat} {C : String} {T : u_T} {o : Int} {As stk : List bV} (hd : decode M0.2.1 pc = .ok (.invokevirtual idx, 3)) (ho : b_is n o 0 c N) (hc : vwCl[c]? = some (C, T, N))
    (h1 : Cond.methodLink M0.1.cls idx M.1 ∈ lw_all) (h2 : Cond.instanceMethod M.1 ∈ lw_all) (h3 : Cond.selects C M.1 M.1 ∈ lw_all) (h4 : Cond.initialized C ∈ lw_all) (h5 : Cond.code M.1 M.2.1 M.2.2.1 M.2.2.2.1 ∈ lw_all)
    (hC : M.1.cls = C) (hm : M.1.cls ≠ "java/lang/invoke/MethodHandle" ∧ M.1.cls ≠ "java/lang/invoke/VarHandle" ∧ (parseMethodDescriptor M.1.desc).map (fun d => d.parameters.length) = some As.length)
    (hh : M.2.2.2.2 = []) (hh' : ∀ x ∈ tableOf M0.2.2.2.2, covers x pc = false) (hL : Nat.ble M.2.2.1 45 = true) (h0 : b_rtt M.2.2.2.1 = 0) (h0s : M.2.2.2.1.isSome = true) (hs : As.reverse ++ (2, o) :: st = stk) (hr : Nat.ble (b_wds st) 8 = true) (hq : pc + 3 = q)
    (k : b_K d M ((2, o) :: As) n w (fun r w1 => b_Y (d + 1) M0 n Q X q ls ((0, r) :: st) w1) X) : b_Y (d + 1) M0 n Q X pc ls stk w := by
  refine x_invVO (Z := b_Z (d + 1) M0 n Q X) (mc := 0) (ms := 0) idx hd ho hc h1 h2 h3 h4 h5 ⟨hC, hm⟩ hh hh' rfl hL hs hr (Nat.le_refl 0) (Nat.le_refl 0) hq (fun C n' w' h => h) (c_mono k (fun r n' w' h => ?_) (fun _ _ _ h => h))
  obtain ⟨rfl, h⟩ := h
  rw [b_res_s h0 h0s]
  exact h
end BridgeMath
