section BridgeExt
variable {Z : bZ} {n u v pc q : Nat} {ls st : List bV} {w : bW}
theorem b_okt {n : Nat} {t : Nat} {x : Int} (h : Nat.ble 3 t = true) : b_okv n (t, x) := by
  have := Nat.le_of_ble_eq_true h
  exact ⟨fun q => by simp only at q; omega, fun q => by simp only at q; omega, fun q => by simp only at q; omega⟩
/-- a text on the stack -/
theorem x_ldcs (idx : Nat) {tx : String} {k0 : Nat} (hd : decode (bZ_M Z).2.1 pc = .ok (.ldc idx, 2)) (hs : ((bZ_M Z).1.cls, idx, tx, k0) ∈ b_srs) (hq : pc + 2 = q) (k : b_X Z n u v q ls ((4, (k0 : Int)) :: st) w) : b_X Z n u v pc ls st w := by
  subst hq
  intro E p e s m args below meth c' H locs ad0 ad lsA hC hG hb ha0 hn hR hS hl hls hst
  have hk := k E p e s m args below meth c' H locs ad0 ad lsA hC hG hb ha0 hn hR hS hl hls (b_all0 (b_okt rfl) hst)
  have hz := hG.2.1.2.2.2.2.2.1 _ hs
  refine va_ldcS hC.1 hC.2.1 hC.2.2.2.2.1 hz hd ?_
  have e4 : b_vl E ad (4, (k0 : Int)) = .ref (bE_k E k0) := by show Value.ref (bE_k E (k0 : Int).toNat) = _; rw [Int.toNat_natCast]
  rw [List.map_cons, e4] at hk
  exact hk
theorem x_ldcsw (idx : Nat) {tx : String} {k0 : Nat} (hd : decode (bZ_M Z).2.1 pc = .ok (.ldc_w idx, 3)) (hs : ((bZ_M Z).1.cls, idx, tx, k0) ∈ b_srs) (hq : pc + 3 = q) (k : b_X Z n u v q ls ((4, (k0 : Int)) :: st) w) : b_X Z n u v pc ls st w := by
  subst hq
  intro E p e s m args below meth c' H locs ad0 ad lsA hC hG hb ha0 hn hR hS hl hls hst
  have hk := k E p e s m args below meth c' H locs ad0 ad lsA hC hG hb ha0 hn hR hS hl hls (b_all0 (b_okt rfl) hst)
  have hz := hG.2.1.2.2.2.2.2.1 _ hs
  have e4 : b_vl E ad (4, (k0 : Int)) = .ref (bE_k E k0) := by show Value.ref (bE_k E (k0 : Int).toNat) = _; rw [Int.toNat_natCast]
  rw [List.map_cons, e4] at hk
  intro T hT X
  obtain ⟨t, a1, b1⟩ := hk T hT X
  exact ⟨t, X.ldcStringW hC.1 (own := (bZ_M Z).1.cls) (text := tx) (index := idx) (a := bE_k E k0) hC.2.2.2.2.1 hz.1 hz.2 (g := F0 m pc lsA (st.map (b_vl E ad))) rfl (by rw [hC.2.1]; exact hd) t a1, b1⟩
/-- a text's bytes -/
theorem x_sval (idx : Nat) {i : Int} (hd : decode (bZ_M Z).2.1 pc = .ok (.getfield idx, 3)) (hi : 0 ≤ i ∧ i < 6) (h1 : Cond.fieldLink (bZ_M Z).1.cls idx "java/lang/String" "value" "[B" ∈ lw_all) (hq : pc + 3 = q) (k : b_X Z n u v q ls ((5, i) :: st) w) : b_X Z n u v pc ls ((4, i) :: st) w := by
  subst hq
  intro E p e s m args below meth c' H locs ad0 ad lsA hC hG hb ha0 hn hR hS hl hls hst
  have hk := k E p e s m args below meth c' H locs ad0 ad lsA hC hG hb ha0 hn hR hS hl hls (b_all0 (b_okt rfl) (b_tl hst))
  have hz := ((b_G_s hG hb hS).2.1.2.2.2.2.1.1 i.toNat (by omega)).2.2.1
  exact vk_getf hC.1 hC.2.1 hz hS hC.2.2.2.2.1 (hC.2.2.2.2.2.1 _ h1) (fun x hx => hx) hd hk
theorem x_scod (idx : Nat) {i : Int} (hd : decode (bZ_M Z).2.1 pc = .ok (.getfield idx, 3)) (hi : 0 ≤ i ∧ i < 6) (h1 : Cond.fieldLink (bZ_M Z).1.cls idx "java/lang/String" "coder" "B" ∈ lw_all) (hq : pc + 3 = q) (k : b_X Z n u v q ls ((0, 0) :: st) w) : b_X Z n u v pc ls ((4, i) :: st) w := by
  subst hq
  intro E p e s m args below meth c' H locs ad0 ad lsA hC hG hb ha0 hn hR hS hl hls hst
  have hk := k E p e s m args below meth c' H locs ad0 ad lsA hC hG hb ha0 hn hR hS hl hls (b_all0 (b_oki (by decide)) (b_tl hst))
  have hz := ((b_G_s hG hb hS).2.1.2.2.2.2.1.1 i.toNat (by omega)).2.1
  exact vk_getf hC.1 hC.2.1 hz hS hC.2.2.2.2.1 (hC.2.2.2.2.2.1 _ h1) (fun x hx => hx) hd hk
/-- the bytes of text i -/
def b_tb (i j : Int) : Int := ((b_byt.getD i.toNat []).getD j.toNat 0).toInt
def b_tlen (i : Int) : Int := (b_len.getD i.toNat 0 : Nat)
theorem x_bst {i j : Int} (hd : decode (bZ_M Z).2.1 pc = .ok (.baload, 1)) (hi : 0 ≤ i ∧ i < 6) (hj : 0 ≤ j ∧ j < b_tlen i) (hq : pc + 1 = q) (k : b_X Z n u v q ls ((0, b_tb i j) :: st) w) : b_X Z n u v pc ls ((0, j) :: (5, i) :: st) w := by
  subst hq
  intro E p e s m args below meth c' H locs ad0 ad lsA hC hG hb ha0 hn hR hS hl hls hst
  have hr := b_ri (b_h0 hst)
  have hk := k E p e s m args below meth c' H locs ad0 ad lsA hC hG hb ha0 hn hR hS hl hls (b_all0 (b_oki (b_tr _)) (b_tl (b_tl hst)))
  have hz := ((b_G_s hG hb hS).2.1.2.2.2.2.1.1 i.toNat (by omega)).2.2.2
  refine va_tb hC.1 hC.2.1 hz hS (b_in hr hj) (v := .int (Int32.ofInt (b_tb i j))) ?_ hd hk
  show Value.int ((b_byt.getD i.toNat []).getD (Int32.ofInt j).toNatClampNeg 0) = _
  rw [b_cl hr, b_tb, Int32.ofInt_toInt]
theorem x_lst {i : Int} (hd : decode (bZ_M Z).2.1 pc = .ok (.arraylength, 1)) (hi : 0 ≤ i ∧ i < 6) (hq : pc + 1 = q) (k : b_X Z n u v q ls ((0, b_tlen i) :: st) w) : b_X Z n u v pc ls ((5, i) :: st) w := by
  subst hq
  intro E p e s m args below meth c' H locs ad0 ad lsA hC hG hb ha0 hn hR hS hl hls hst
  have hlen : ∀ i : Nat, i < 6 → b_len.getD i 0 ≤ 2147483647 := by decide
  have hk := k E p e s m args below meth c' H locs ad0 ad lsA hC hG hb ha0 hn hR hS hl hls (b_all0 (b_oki (by have := hlen i.toNat (by omega); unfold b_tlen; omega)) (b_tl hst))
  have hz := ((b_G_s hG hb hS).2.1.2.2.2.2.1.1 i.toNat (by omega)).2.2.2
  refine va_tlen hC.1 hC.2.1 hz hS (v := Int32.ofInt (b_tlen i)) ?_ hd hk
  unfold b_tlen
  exact (Int32.ofInt_eq_ofNat).symm
/-- statics -/
theorem x_gsz (idx : Nat) (hd : decode (bZ_M Z).2.1 pc = .ok (.getstatic idx, 3)) (h1 : Cond.fieldLink (bZ_M Z).1.cls idx "ContractLedger$Memory" "SIZES" "[B" ∈ lw_all) (hq : pc + 3 = q) (k : b_X Z n u v q ls ((6, 0) :: st) w) : b_X Z n u v pc ls st w := by
  subst hq
  intro E p e s m args below meth c' H locs ad0 ad lsA hC hG hb ha0 hn hR hS hl hls hst
  have hk := k E p e s m args below meth c' H locs ad0 ad lsA hC hG hb ha0 hn hR hS hl hls (b_all0 (b_okt rfl) hst)
  exact va_gets hC.1 hC.2.1 (b_G_s hG hb hS).2.1.2.2.2.2.2.2.1 hS hC.2.2.2.2.1 (hC.2.2.2.2.2.1 _ h1) (fun x hx => hx) hd hk
def b_sz (j : Int) : Int := (b_siz.getD j.toNat 0).toInt
theorem x_bsz {j i : Int} (hd : decode (bZ_M Z).2.1 pc = .ok (.baload, 1)) (hj : 0 ≤ j ∧ j < 12) (hq : pc + 1 = q) (k : b_X Z n u v q ls ((0, b_sz j) :: st) w) : b_X Z n u v pc ls ((0, j) :: (6, i) :: st) w := by
  subst hq
  intro E p e s m args below meth c' H locs ad0 ad lsA hC hG hb ha0 hn hR hS hl hls hst
  have hr := b_ri (b_h0 hst)
  have hk := k E p e s m args below meth c' H locs ad0 ad lsA hC hG hb ha0 hn hR hS hl hls (b_all0 (b_oki (b_tr _)) (b_tl (b_tl hst)))
  refine va_tb hC.1 hC.2.1 (b_G_s hG hb hS).2.1.2.2.2.2.2.2.2.1 hS (b_in hr hj) (v := .int (Int32.ofInt (b_sz j))) ?_ hd hk
  show Value.int (b_siz.getD (Int32.ofInt j).toNatClampNeg 0) = _
  rw [b_cl hr, b_sz, Int32.ofInt_toInt]
theorem x_gcs (idx : Nat) (hd : decode (bZ_M Z).2.1 pc = .ok (.getstatic idx, 3)) (h1 : Cond.fieldLink (bZ_M Z).1.cls idx "java/lang/String" "COMPACT_STRINGS" "Z" ∈ lw_all) (hq : pc + 3 = q) (k : b_X Z n u v q ls ((0, 1) :: st) w) : b_X Z n u v pc ls st w := by
  subst hq
  intro E p e s m args below meth c' H locs ad0 ad lsA hC hG hb ha0 hn hR hS hl hls hst
  have hk := k E p e s m args below meth c' H locs ad0 ad lsA hC hG hb ha0 hn hR hS hl hls (b_all0 (b_oki (by decide)) hst)
  exact va_gets hC.1 hC.2.1 (b_G_s hG hb hS).2.1.2.2.2.2.2.2.2.2.1 hS hC.2.2.2.2.1 (hC.2.2.2.2.2.1 _ h1) (fun x hx => hx) hd hk
/-- some reference, or null: which, is not said -/
theorem x_gfm (idx : Nat) (hd : decode (bZ_M Z).2.1 pc = .ok (.getstatic idx, 3)) (h1 : Cond.fieldLink (bZ_M Z).1.cls idx "jdk/internal/util/Preconditions" "SIOOBE_FORMATTER" "Ljava/util/function/BiFunction;" ∈ lw_all) (hq : pc + 3 = q) (k0 : b_X Z n u v q ls ((2, -1) :: st) w) (k : ∀ a : Int, b_X Z n u v q ls ((7, a) :: st) w) : b_X Z n u v pc ls st w := by
  subst hq
  intro E p e s m args below meth c' H locs ad0 ad lsA hC hG hb ha0 hn hR hS hl hls hst
  rcases (b_G_s hG hb hS).2.1.2.2.2.2.2.2.2.2.2.1 with h | ⟨t, h⟩
  · have hk := k0 E p e s m args below meth c' H locs ad0 ad lsA hC hG hb ha0 hn hR hS hl hls (b_all0 (b_okr (by omega)) hst)
    exact va_gets hC.1 hC.2.1 h hS hC.2.2.2.2.1 (hC.2.2.2.2.2.1 _ h1) (fun x hx => hx) hd hk
  · have hk := k (t : Int) E p e s m args below meth c' H locs ad0 ad lsA hC hG hb ha0 hn hR hS hl hls (b_all0 (b_okt rfl) hst)
    have e7 : b_vl E ad (7, (t : Int)) = .ref t := by show Value.ref (t : Int).toNat = _; rw [Int.toNat_natCast]
    rw [List.map_cons, e7] at hk
    exact va_gets hC.1 hC.2.1 h hS hC.2.2.2.2.1 (hC.2.2.2.2.2.1 _ h1) (fun x hx => hx) hd hk
/-- a call through a text -/
theorem x_invT (idx : Nat) {M : bM} {d : Nat} {i : Int} {As stk : List bV} {X : String → Nat → bW → Prop} (hd : decode (bZ_M Z).2.1 pc = .ok (.invokevirtual idx, 3)) (hi : 0 ≤ i ∧ i < 6)
    (h1 : Cond.methodLink (bZ_M Z).1.cls idx M.1 ∈ lw_all) (h2 : Cond.instanceMethod M.1 ∈ lw_all) (h3 : Cond.selects "java/lang/String" M.1 M.1 ∈ lw_all) (h4 : Cond.initialized "java/lang/String" ∈ lw_all) (h5 : Cond.code M.1 M.2.1 M.2.2.1 M.2.2.2.1 ∈ lw_all)
    (hm : M.1.cls = "java/lang/String" ∧ M.1.cls ≠ "java/lang/invoke/MethodHandle" ∧ M.1.cls ≠ "java/lang/invoke/VarHandle" ∧ (parseMethodDescriptor M.1.desc).map (fun d => d.parameters.length) = some As.length)
    (hh : M.2.2.2.2 = []) (hh' : (bZ_M Z).2.2.2.2 = []) (hdd : Z.1 = d + 1) (hL : Nat.ble M.2.2.1 45 = true) (hs : As.reverse ++ (4, i) :: st = stk) (hr : Nat.ble (b_wds st) 8 = true) (hu : u ≤ Z.2.1) (hv : v ≤ Z.2.2.1) (hq : pc + 3 = q)
    (hX : ∀ C n' w', X C n' w' → Z.2.2.2.2.2.2 C n' w')
    (k : b_C d 0 0 M ((4, i) :: As) n w (fun r n' w' => b_X Z n' u v q ls (b_res M.2.2.2.1 r st) w') X) : b_X Z n u v pc ls stk w := by
  subst hs
  intro E p e s m args below meth c' H locs ad0 ad lsA hC hG hb ha0 hn hR hS hl hls hst
  have hAs : ∀ x ∈ As, b_okv n x := fun x hx => hst x (List.mem_append_left _ (List.mem_reverse.mpr hx))
  have hrest : ∀ x ∈ (4, i) :: st, b_okv n x := fun x hx => hst x (List.mem_append_right _ hx)
  have hM := k E ad (fun x hx => by
    rcases List.mem_cons.mp hx with e | e
    · rw [e]; exact b_h0 hrest
    · exact hAs x e)
  have hwl : b_wsl M = Cond.code M.1 M.2.1 M.2.2.1 M.2.2.2.1 :: lw_all := by unfold b_wsl; rw [hh]
  rw [hwl] at hM
  refine b_after (M := M) (mc := 0) (ms := 0) (rest := st) (X := X) (q := q) hC hh' hG hb ha0 hn hS hl hls (b_tl hrest) hu hv hq hX
    (vx_runV (As := As.map (b_vl E ad)) (rest := st.map (b_vl E ad)) (Ts := lw_all) (nL := (bZ_M Z).2.2.1) ⟨hC.1, hC.2.1, hC.2.2.2.1, hC.2.2.2.2.1, hC.2.2.2.2.2.1⟩ hM (cwV (C := "java/lang/String") (rm := b_rm d 0 0) As.length hC.2.2.2.2.2.1 (lw_V h1 h2 h3 h4 h5) rfl rfl rfl hm (b_room hdd hL)) ⟨b_blind, vk_recv (b_G_s hG hb hS).2.1.2.2.2.2.1 (i := i.toNat) (by omega) hS, fun U hU hW => ⟨rfl, by rw [hU]; exact hG.down hW, by rw [hU]; exact hR⟩⟩ rfl (by simp) hl.1 ?_ ?_ hd ⟨hu, hv⟩)
  · simp [b_vl]
  · exact lv_room (by rw [b_sum]; exact Nat.le_of_ble_eq_true hr)
/-- the law's script -/
theorem x_slen {i : Int} (hd : decode (bZ_M Z).2.1 pc = .ok (.arraylength, 1)) (hq : pc + 1 = q) (k : b_X Z n u v q ls ((0, w (-2) 0) :: st) w) : b_X Z n u v pc ls ((3, i) :: st) w := by
  subst hq
  intro E p e s m args below meth c' H locs ad0 ad lsA hC hG hb ha0 hn hR hS hl hls hst
  have hs := b_G_s hG hb hS
  have hL := hR.2.2.2.2.1.1
  have hk := k E p e s m args below meth c' H locs ad0 ad lsA hC hG hb ha0 hn hR hS hl hls (b_all0 (b_oki (by have := hG.2.1.2.2.1; omega)) (b_tl hst))
  rw [List.map_cons, hL, show b_vl E ad (0, (bE_L E : Int)) = .int (Int32.ofNat (bE_L E)) from congrArg Value.int Int32.ofInt_eq_ofNat] at hk
  exact va_slen (A := bA E) hC.1 hC.2.1 hs.2.1.1 (Nat.lt_of_lt_of_le hG.2.1.2.1 hb) (by unfold bA; have := hG.2.1.2.1; omega) hS hd hk
theorem x_sld {i j : Int} (hd : decode (bZ_M Z).2.1 pc = .ok (.iaload, 1)) (hj : 0 ≤ j ∧ j < w (-2) 0) (hq : pc + 1 = q) (k : b_X Z n u v q ls ((0, w (-1) j) :: st) w) : b_X Z n u v pc ls ((0, j) :: (3, i) :: st) w := by
  subst hq
  intro E p e s m args below meth c' H locs ad0 ad lsA hC hG hb ha0 hn hR hS hl hls hst
  have hs := b_G_s hG hb hS
  have hL := hR.2.2.2.2.1.1
  have hr := b_ri (b_h0 hst)
  rw [hL] at hj
  have hx := hR.2.2.2.2.1.2 j.toNat (by omega)
  rw [show ((j.toNat : Nat) : Int) = j from Int.toNat_of_nonneg hj.1] at hx
  have hk := k E p e s m args below meth c' H locs ad0 ad lsA hC hG hb ha0 hn hR hS hl hls (b_all0 (b_oki (by rw [hx]; exact b_tr _)) (b_tl (b_tl hst)))
  refine va_sld (A := bA E) hC.1 hC.2.1 hs.2.1.1 (Nat.lt_of_lt_of_le hG.2.1.2.1 hb) (by unfold bA; have := hG.2.1.2.1; omega) hS (b_in hr hj) hd ?_
  rw [b_cl hr]
  rw [List.map_cons, hx, show b_vl E ad (0, (bE_x E j.toNat).toInt) = .int (bE_x E j.toNat) from congrArg Value.int (Int32.ofInt_toInt _)] at hk
  exact hk
/-- well-formed worlds alone are met -/
theorem x_wf (k : b_wf n w → b_X Z n u v pc ls st w) : b_X Z n u v pc ls st w := by
  intro E p e s m args below meth c' H locs ad0 ad lsA hC hG hb ha0 hn hR hS hl hls hst
  exact k hR.2.2.1 E p e s m args below meth c' H locs ad0 ad lsA hC hG hb ha0 hn hR hS hl hls hst
theorem x_fin (k : b_fin n w → b_X Z n u v pc ls st w) : b_X Z n u v pc ls st w := by
  intro E p e s m args below meth c' H locs ad0 ad lsA hC hG hb ha0 hn hR hS hl hls hst
  exact k hR.2.2.2.2.2 E p e s m args below meth c' H locs ad0 ad lsA hC hG hb ha0 hn hR hS hl hls hst
theorem x_oks (k : (∀ x ∈ ls, b_okv n x) → (∀ x ∈ st, b_okv n x) → b_X Z n u v pc ls st w) : b_X Z n u v pc ls st w := by
  intro E p e s m args below meth c' H locs ad0 ad lsA hC hG hb ha0 hn hR hS hl hls hst
  exact k hls hst E p e s m args below meth c' H locs ad0 ad lsA hC hG hb ha0 hn hR hS hl hls hst
theorem c_mono {d mc ms : Nat} {M : bM} {args : List bV} {Q Q' : Int → Nat → bW → Prop} {X X' : String → Nat → bW → Prop} (h : b_C d mc ms M args n w Q X) (hQ : ∀ r n' w', Q r n' w' → Q' r n' w') (hX : ∀ C n' w', X C n' w' → X' C n' w') : b_C d mc ms M args n w Q' X' := by
  intro E ad ha
  have h1 := h E ad ha
  unfold vx_Met at h1 ⊢
  refine MetFree.mono h1 (fun a s h => h) (fun _ _ _ _ _ _ => trivial) (fun a s o s' _ hq => ?_)
  rcases hq with ⟨⟨r, n', w', ad', g1, g2, g3, g4, g5, g6, g7⟩, hF⟩ | ⟨q, rfl, C, ce, L, ⟨n', w', ad', g1, g2, g3, g4, g5⟩, hT⟩
  · exact Or.inl ⟨⟨r, n', w', ad', g1, g2, g3, g4, g5, g6, hQ _ _ _ g7⟩, hF⟩
  · exact Or.inr ⟨q, rfl, C, ce, L, ⟨n', w', ad', g1, g2, g3, g4, hX _ _ _ g5⟩, hT⟩
theorem c_wf {d mc ms : Nat} {M : bM} {args : List bV} {Q : Int → Nat → bW → Prop} {X : String → Nat → bW → Prop} (k : b_wf n w → (∀ x ∈ args, b_okv n x) → n ≤ 255 → b_fin n w → b_C d mc ms M args n w Q X) : b_C d mc ms M args n w Q X := by
  intro E ad ha p e h1 h2 h3 s m a below h4 h5 hP h6
  exact k hP.2.2.2.2.1 ha hP.2.2.2.2.2.1 hP.2.2.2.2.2.2.2 E ad ha p e h1 h2 h3 s m a below h4 h5 hP h6
/-- what a method answers is in range -/
theorem c_ok {d mc ms : Nat} {M : bM} {args : List bV} {Q : Int → Nat → bW → Prop} {X : String → Nat → bW → Prop} (h : b_C d mc ms M args n w (fun r n' w' => b_okv n' (b_rtt M.2.2.2.1, r) → b_wf n' w' → b_fin n' w' → Q r n' w') X) : b_C d mc ms M args n w Q X := by
  intro E ad ha
  have h1 := h E ad ha
  unfold vx_Met at h1 ⊢
  refine MetFree.mono h1 (fun a s h => h) (fun _ _ _ _ _ _ => trivial) (fun a s o s' _ hq => ?_)
  rcases hq with ⟨⟨r, n', w', ad', g1, g2, g3, g4, g5, g6, g7⟩, hF⟩ | hq
  · exact Or.inl ⟨⟨r, n', w', ad', g1, g2, g3, g4, g5, g6, g7 g6 g4.2.2.1 g4.2.2.2.2.2⟩, hF⟩
  · exact Or.inr hq
theorem c_deep {d d' mc ms : Nat} {M : bM} {args : List bV} {Q : Int → Nat → bW → Prop} {X : String → Nat → bW → Prop} (h : b_C d mc ms M args n w Q X) (hd : d ≤ d') : b_C d' mc ms M args n w Q X := by
  intro E ad ha p e h1 h2 h3 s m a below h4 h5 hP h6
  refine h E ad ha p e h1 h2 h3 s m a below h4 ?_ hP h6
  unfold Spec.appliesLoose at h5 ⊢
  rw [h4] at h5 ⊢
  simp only [Bool.and_eq_true] at h5 ⊢
  refine ⟨⟨h5.1.1, ?_⟩, h5.2⟩
  have h7 : s.hasRoom e.platform (b_rm d' mc ms) = true := h5.1.2
  show s.hasRoom e.platform (b_rm d mc ms) = true
  unfold State.hasRoom b_rm at h7 ⊢
  simp only [Bool.and_eq_true, decide_eq_true_eq] at h7 ⊢
  refine ⟨?_, h7.2⟩
  omega
end BridgeExt
