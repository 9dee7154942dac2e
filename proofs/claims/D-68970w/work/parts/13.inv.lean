section BridgeInv
variable {Z : bZ} {n u v pc q : Nat} {ls st : List bV} {w : bW}
theorem b_sum (E : bE) (ad : Nat → Nat) (l : List bV) : ((l.map (b_vl E ad)).map fun v => v.category).sum = b_wds l := by
  induction l with
  | nil => rfl
  | cons x r ih =>
    rw [List.map_cons, List.map_cons, List.sum_cons, ih, b_wds]
    split
    · rename_i h; rw [b_cat2 E ad h]
    · rename_i h; rw [b_cat1 E ad (b_beq1 h)]
/-- a static call -/
theorem x_invS (idx : Nat) {M : bM} {d mc ms : Nat} {As stk : List bV} {X : String → Nat → bW → Prop} (hd : decode (bZ_M Z).2.1 pc = .ok (.invokestatic idx, 3))
    (h1 : Cond.methodLink (bZ_M Z).1.cls idx M.1 ∈ lw_all) (h2 : Cond.static M.1 ∈ lw_all) (h3 : Cond.initialized M.1.cls ∈ lw_all) (h5 : Cond.code M.1 M.2.1 M.2.2.1 M.2.2.2.1 ∈ lw_all)
    (hm : M.1.cls ≠ "java/lang/invoke/MethodHandle" ∧ M.1.cls ≠ "java/lang/invoke/VarHandle" ∧ (parseMethodDescriptor M.1.desc).map (fun d => d.parameters.length) = some As.length)
    (hh : M.2.2.2.2 = []) (hh' : (bZ_M Z).2.2.2.2 = []) (hdd : Z.1 = d + 1) (hL : Nat.ble M.2.2.1 45 = true) (hs : As.reverse ++ st = stk) (hr : Nat.ble (b_wds st) 8 = true) (hu : u + mc ≤ Z.2.1) (hv : v + ms ≤ Z.2.2.1) (hq : pc + 3 = q)
    (hX : ∀ C n' w', X C n' w' → Z.2.2.2.2.2.2 C n' w')
    (k : b_C d mc ms M As n w (fun r n' w' => b_X Z n' (u + mc) (v + ms) q ls (b_res M.2.2.2.1 r st) w') X) : b_X Z n u v pc ls stk w := by
  subst hs
  intro E p e s m args below meth c' H locs ad0 ad lsA hC hG hb ha0 hn hR hS hl hls hst
  have hAs : ∀ x ∈ As, b_okv n x := fun x hx => hst x (List.mem_append_left _ (List.mem_reverse.mpr hx))
  have hrest : ∀ x ∈ st, b_okv n x := fun x hx => hst x (List.mem_append_right _ hx)
  have hM := k E ad hAs
  have hwl : b_wsl M = Cond.code M.1 M.2.1 M.2.2.1 M.2.2.2.1 :: lw_all := by unfold b_wsl; rw [hh]
  rw [hwl] at hM
  refine b_after (M := M) (mc := mc) (ms := ms) (rest := st) (X := X) (q := q) hC hh' hG hb ha0 hn hS hl hls hrest hu hv hq hX
    (vx_runS (As := As.map (b_vl E ad)) (rest := st.map (b_vl E ad)) (Ts := lw_all) (nL := (bZ_M Z).2.2.1) ⟨hC.1, hC.2.1, hC.2.2.2.1, hC.2.2.2.2.1, hC.2.2.2.2.2.1⟩ hM (va_cwS (rm := b_rm d mc ms) As.length hC.2.2.2.2.2.1 (lw_S h1 h2 h3 h5) rfl rfl rfl hm (b_room hdd hL)) ⟨b_blind, fun U hU hW => ⟨rfl, by rw [hU]; exact hG.down hW, by rw [hU]; exact hR⟩⟩ rfl (by simp) hl.1 (by simp) ?_ hd ⟨hu, hv⟩)
  exact lv_room (by rw [b_sum]; exact Nat.le_of_ble_eq_true hr)
/-- a constructor -/
theorem x_invI (idx : Nat) {M : bM} {d mc ms : Nat} {o : Int} {As stk : List bV} {X : String → Nat → bW → Prop} (hd : decode (bZ_M Z).2.1 pc = .ok (.invokespecial idx, 3)) (ho : 0 ≤ o)
    (h1 : Cond.methodLink (bZ_M Z).1.cls idx M.1 ∈ lw_all) (h2 : Cond.instanceMethod M.1 ∈ lw_all) (h3 : Cond.initialized M.1.cls ∈ lw_all) (h5 : Cond.code M.1 M.2.1 M.2.2.1 M.2.2.2.1 ∈ lw_all)
    (hm : M.1.cls ≠ "java/lang/invoke/MethodHandle" ∧ M.1.cls ≠ "java/lang/invoke/VarHandle" ∧ (parseMethodDescriptor M.1.desc).map (fun d => d.parameters.length) = some As.length) (hnm : M.1.name = "<init>") (hret : M.2.2.2.1 = none)
    (hh : M.2.2.2.2 = []) (hh' : (bZ_M Z).2.2.2.2 = []) (hdd : Z.1 = d + 1) (hL : Nat.ble M.2.2.1 45 = true) (hs : As.reverse ++ (2, o) :: st = stk) (hr : Nat.ble (b_wds st) 8 = true) (hu : u + mc ≤ Z.2.1) (hv : v + ms ≤ Z.2.2.1) (hq : pc + 3 = q)
    (hX : ∀ C n' w', X C n' w' → Z.2.2.2.2.2.2 C n' w')
    (k : b_C d mc ms M ((2, o) :: As) n w (fun _ n' w' => b_X Z n' (u + mc) (v + ms) q ls st w') X) : b_X Z n u v pc ls stk w := by
  subst hs
  intro E p e s m args below meth c' H locs ad0 ad lsA hC hG hb ha0 hn hR hS hl hls hst
  have hAs : ∀ x ∈ As, b_okv n x := fun x hx => hst x (List.mem_append_left _ (List.mem_reverse.mpr hx))
  have hrest : ∀ x ∈ (2, o) :: st, b_okv n x := fun x hx => hst x (List.mem_append_right _ hx)
  have k : b_C d mc ms M ((2, o) :: As) n w (fun r n' w' => b_X Z n' (u + mc) (v + ms) q ls (b_res M.2.2.2.1 r st) w') X := by
    have e : ∀ r : Int, b_res M.2.2.2.1 r st = st := fun r => by rw [hret]; rfl
    simp only [e]
    exact k
  have hM := k E ad (fun x hx => by
    rcases List.mem_cons.mp hx with e | e
    · rw [e]; exact b_h0 hrest
    · exact hAs x e)
  have hwl : b_wsl M = ws_ M.1 M.2.1 M.2.2.1 none := by unfold b_wsl; rw [hh, hret]
  rw [hwl] at hM
  rw [hret] at h5
  rw [List.map_cons, b_vl2 ho] at hM
  refine b_after (M := M) (mc := mc) (ms := ms) (rest := st) (X := X) (q := q) hC hh' hG hb ha0 hn hS hl hls (b_tl hrest) hu hv hq hX
    (vx_runI (As := As.map (b_vl E ad)) (rest := st.map (b_vl E ad)) (Ts := lw_all) (nL := (bZ_M Z).2.2.1) ⟨hC.1, hC.2.1, hC.2.2.2.1, hC.2.2.2.2.1, hC.2.2.2.2.2.1⟩ hM (cwI (rm := b_rm d mc ms) As.length hC.2.2.2.2.2.1 (lw_meth h5) rfl rfl rfl (hC.2.2.2.2.2.1 _ h3) (hC.2.2.2.2.2.1 _ h1) (hC.2.2.2.2.2.1 _ h2) hnm hm (b_room hdd hL)) ⟨b_blind, fun U hU hW => ⟨rfl, by rw [hU]; exact hG.down hW, by rw [hU]; exact hR⟩⟩ rfl (by simp) hl.1 ?_ ?_ hd ⟨hu, hv⟩)
  · simp [b_vl2 ho]
  · exact lv_room (by rw [b_sum]; exact Nat.le_of_ble_eq_true hr)
/-- a constructor of a nest mate -/
theorem x_invN (idx : Nat) {M : bM} {d mc ms : Nat} {o : Int} {host : String} {As stk : List bV} {X : String → Nat → bW → Prop} (hd : decode (bZ_M Z).2.1 pc = .ok (.invokespecial idx, 3)) (ho : 0 ≤ o)
    (h1 : ((bZ_M Z).1.cls, idx, M.1, host) ∈ b_nwM) (h2 : Cond.instanceMethod M.1 ∈ lw_all) (h3 : Cond.initialized M.1.cls ∈ lw_all) (h5 : Cond.code M.1 M.2.1 M.2.2.1 M.2.2.2.1 ∈ lw_all)
    (hm : M.1.cls ≠ "java/lang/invoke/MethodHandle" ∧ M.1.cls ≠ "java/lang/invoke/VarHandle" ∧ (parseMethodDescriptor M.1.desc).map (fun d => d.parameters.length) = some As.length) (hnm : M.1.name = "<init>") (hret : M.2.2.2.1 = none)
    (hh : M.2.2.2.2 = []) (hh' : (bZ_M Z).2.2.2.2 = []) (hdd : Z.1 = d + 1) (hL : Nat.ble M.2.2.1 45 = true) (hs : As.reverse ++ (2, o) :: st = stk) (hr : Nat.ble (b_wds st) 8 = true) (hu : u + mc ≤ Z.2.1) (hv : v + ms ≤ Z.2.2.1) (hq : pc + 3 = q)
    (hX : ∀ C n' w', X C n' w' → Z.2.2.2.2.2.2 C n' w')
    (k : b_C d mc ms M ((2, o) :: As) n w (fun _ n' w' => b_X Z n' (u + mc) (v + ms) q ls st w') X) : b_X Z n u v pc ls stk w := by
  subst hs
  intro E p e s m args below meth c' H locs ad0 ad lsA hC hG hb ha0 hn hR hS hl hls hst
  have hAs : ∀ x ∈ As, b_okv n x := fun x hx => hst x (List.mem_append_left _ (List.mem_reverse.mpr hx))
  have hrest : ∀ x ∈ (2, o) :: st, b_okv n x := fun x hx => hst x (List.mem_append_right _ hx)
  have k : b_C d mc ms M ((2, o) :: As) n w (fun r n' w' => b_X Z n' (u + mc) (v + ms) q ls (b_res M.2.2.2.1 r st) w') X := by
    have e : ∀ r : Int, b_res M.2.2.2.1 r st = st := fun r => by rw [hret]; rfl
    simp only [e]
    exact k
  have hM := k E ad (fun x hx => by
    rcases List.mem_cons.mp hx with e | e
    · rw [e]; exact b_h0 hrest
    · exact hAs x e)
  have hwl : b_wsl M = ws_ M.1 M.2.1 M.2.2.1 none := by unfold b_wsl; rw [hh, hret]
  rw [hwl] at hM
  rw [hret] at h5
  rw [List.map_cons, b_vl2 ho] at hM
  have hnw := hG.2.1.2.2.2.2.2.2.2.2.2.2.2.2.1 _ h1
  refine b_after (M := M) (mc := mc) (ms := ms) (rest := st) (X := X) (q := q) hC hh' hG hb ha0 hn hS hl hls (b_tl hrest) hu hv hq hX
    (vx_runIN (As := As.map (b_vl E ad)) (rest := st.map (b_vl E ad)) (Ts := lw_all) (nL := (bZ_M Z).2.2.1) ⟨hC.1, hC.2.1, hC.2.2.2.1, hC.2.2.2.2.1, hC.2.2.2.2.2.1⟩ hM ⟨va_cnB (rm := b_rm d mc ms) As.length hC.2.2.2.2.2.1 (lw_meth h5) rfl rfl rfl hnw (hC.2.2.2.2.2.1 _ h3) hm (b_room hdd hL), hnm, hC.2.2.2.2.2.1 _ h2⟩ ⟨b_blind, fun U hU hW => ⟨rfl, by rw [hU]; exact hG.down hW, by rw [hU]; exact hR⟩⟩ rfl (by simp) hl.1 ?_ ?_ hd ⟨hu, hv⟩)
  · simp [b_vl2 ho]
  · exact lv_room (by rw [b_sum]; exact Nat.le_of_ble_eq_true hr)
/-- Object's constructor -/
theorem x_obj (idx : Nat) {o : Int} (hd : decode (bZ_M Z).2.1 pc = .ok (.invokespecial idx, 3)) (ho : 0 ≤ o) (h1 : Cond.methodLink (bZ_M Z).1.cls idx Lib.objectInit ∈ lw_all) (h2 : Cond.instanceMethod Lib.objectInit ∈ lw_all) (h3 : Cond.code Lib.objectInit ⟨#[0xb1]⟩ 1 none ∈ lw_all) (hdd : 1 ≤ Z.1) (hr : Nat.ble (b_wds st) 8 = true) (hq : pc + 3 = q) (k : b_X Z n u v q ls st w) : b_X Z n u v pc ls ((2, o) :: st) w := by
  subst hq
  intro E p e s m args below meth c' H locs ad0 ad lsA hC hG hb ha0 hn hR hS hl hls hst
  have hk := k E p e s m args below meth c' H locs ad0 ad lsA hC hG hb ha0 hn hR hS hl hls (b_tl hst)
  rw [List.map_cons, b_vl2 ho]
  have hr8 := Nat.le_of_ble_eq_true hr
  refine W.objInit hC.1 hC.2.1 hC.2.2.2.2.1 (hC.2.2.2.2.2.1 _ h1) (hC.2.2.2.2.2.1 _ h2) (hC.2.2.2.2.2.1 _ h3) rfl (by rw [hC.2.2.2.1]; exact hl.1) rfl hd hdd ?_ hk
  have h8 : 2 * (F0 m pc lsA (Value.ref (ad o.toNat) :: st.map (b_vl E ad))).monitorRoom + ((st.map (b_vl E ad)).map fun v => v.category).sum ≤ 8 := lv_room (by rw [b_sum]; exact hr8)
  have : 20 ≤ (b_rm Z.1 Z.2.1 Z.2.2.1).locals := by show 20 ≤ 64 * Z.1; omega
  omega
end BridgeInv
