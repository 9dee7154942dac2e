section BridgeOps
def b_i (z : Int) : Int := Int.bmod z 4294967296
def b_l (z : Int) : Int := Int.bmod z 18446744073709551616
def b_b8 (z : Int) : Int := Int.bmod z 256
def b_s16 (z : Int) : Int := Int.bmod z 65536
theorem b_ofi (z : Int) : Int32.ofInt (b_i z) = Int32.ofInt z := by
  apply Int32.toInt_inj.mp
  rw [Int32.toInt_ofInt, Int32.toInt_ofInt]
  exact Int.bmod_bmod
theorem b_ofl (z : Int) : Int64.ofInt (b_l z) = Int64.ofInt z := by
  apply Int64.toInt_inj.mp
  rw [Int64.toInt_ofInt, Int64.toInt_ofInt]
  exact Int.bmod_bmod
theorem b_i_r (z : Int) : -2147483648 ≤ b_i z ∧ b_i z ≤ 2147483647 := by
  unfold b_i
  have h1 := Int.le_bmod (x := z) (m := 4294967296) (by decide)
  have h2 := Int.bmod_lt (x := z) (m := 4294967296) (by decide)
  omega
theorem b_l_r (z : Int) : -9223372036854775808 ≤ b_l z ∧ b_l z ≤ 9223372036854775807 := by
  unfold b_l
  have h1 := Int.le_bmod (x := z) (m := 18446744073709551616) (by decide)
  have h2 := Int.bmod_lt (x := z) (m := 18446744073709551616) (by decide)
  omega
theorem b_i_id {z : Int} (h : -2147483648 ≤ z ∧ z ≤ 2147483647) : b_i z = z := by
  unfold b_i
  exact Int.bmod_eq_of_le (by omega) (by omega)
theorem b_l_id {z : Int} (h : -9223372036854775808 ≤ z ∧ z ≤ 9223372036854775807) : b_l z = z := by
  unfold b_l
  exact Int.bmod_eq_of_le (by omega) (by omega)
theorem b_toI {z : Int} (h : -2147483648 ≤ z ∧ z ≤ 2147483647) : (Int32.ofInt z).toInt = z := by
  rw [Int32.toInt_ofInt]
  exact b_i_id h
theorem b_toL {z : Int} (h : -9223372036854775808 ≤ z ∧ z ≤ 9223372036854775807) : (Int64.ofInt z).toInt = z := by
  rw [Int64.toInt_ofInt]
  exact b_l_id h
theorem b_tr (x : Int32) : -2147483648 ≤ x.toInt ∧ x.toInt ≤ 2147483647 := by
  have h1 := Int32.le_toInt x
  have h2 := Int32.toInt_lt x
  omega
theorem b_trl (x : Int64) : -9223372036854775808 ≤ x.toInt ∧ x.toInt ≤ 9223372036854775807 := by
  have h1 := Int64.le_toInt x
  have h2 := Int64.toInt_lt x
  omega
theorem b_oki {n : Nat} {z : Int} (h : -2147483648 ≤ z ∧ z ≤ 2147483647) : b_okv n (0, z) := ⟨fun _ => h, fun q => (by cases q), fun q => (by cases q)⟩
theorem b_okl {n : Nat} {z : Int} (h : -9223372036854775808 ≤ z ∧ z ≤ 9223372036854775807) : b_okv n (1, z) := ⟨fun q => (by cases q), fun _ => h, fun q => (by cases q)⟩
theorem b_okr {n : Nat} {z : Int} (h : z < n) : b_okv n (2, z) := ⟨fun q => (by cases q), fun q => (by cases q), fun _ => h⟩
theorem b_ri {n : Nat} {z : Int} (h : b_okv n (0, z)) : -2147483648 ≤ z ∧ z ≤ 2147483647 := h.1 rfl
theorem b_rl {n : Nat} {z : Int} (h : b_okv n (1, z)) : -9223372036854775808 ≤ z ∧ z ≤ 9223372036854775807 := h.2.1 rfl
theorem b_all1 {n : Nat} {a b : bV} {r : List bV} (h : (∀ x ∈ a :: r, b_okv n x) → b_okv n b) : (∀ x ∈ a :: r, b_okv n x) → ∀ x ∈ b :: r, b_okv n x := by
  intro hs x hx
  rcases List.mem_cons.mp hx with e | e
  · rw [e]; exact h hs
  · exact hs x (List.mem_cons_of_mem _ e)
theorem b_all2 {n : Nat} {a c b : bV} {r : List bV} (h : (∀ x ∈ a :: c :: r, b_okv n x) → b_okv n b) : (∀ x ∈ a :: c :: r, b_okv n x) → ∀ x ∈ b :: r, b_okv n x := by
  intro hs x hx
  rcases List.mem_cons.mp hx with e | e
  · rw [e]; exact h hs
  · exact hs x (List.mem_cons_of_mem _ (List.mem_cons_of_mem _ e))
theorem b_all0 {n : Nat} {b : bV} {r : List bV} (h : b_okv n b) : (∀ x ∈ r, b_okv n x) → ∀ x ∈ b :: r, b_okv n x := by
  intro hs x hx
  rcases List.mem_cons.mp hx with e | e
  · rw [e]; exact h
  · exact hs x e
theorem b_eqI {x y : Int} (hx : -2147483648 ≤ x ∧ x ≤ 2147483647) (hy : -2147483648 ≤ y ∧ y ≤ 2147483647) : Int32.ofInt x = Int32.ofInt y ↔ x = y := by
  rw [← Int32.toInt_inj, b_toI hx, b_toI hy]
theorem b_ltI {x y : Int} (hx : -2147483648 ≤ x ∧ x ≤ 2147483647) (hy : -2147483648 ≤ y ∧ y ≤ 2147483647) : Int32.ofInt x < Int32.ofInt y ↔ x < y := by
  rw [Int32.lt_iff_toInt_lt, b_toI hx, b_toI hy]
theorem b_leI {x y : Int} (hx : -2147483648 ≤ x ∧ x ≤ 2147483647) (hy : -2147483648 ≤ y ∧ y ≤ 2147483647) : Int32.ofInt x ≤ Int32.ofInt y ↔ x ≤ y := by
  rw [Int32.le_iff_toInt_le, b_toI hx, b_toI hy]
theorem b_ltL {x y : Int} (hx : -9223372036854775808 ≤ x ∧ x ≤ 9223372036854775807) (hy : -9223372036854775808 ≤ y ∧ y ≤ 9223372036854775807) : Int64.ofInt x < Int64.ofInt y ↔ x < y := by
  rw [Int64.lt_iff_toInt_lt, b_toL hx, b_toL hy]
theorem b_eqL {x y : Int} (hx : -9223372036854775808 ≤ x ∧ x ≤ 9223372036854775807) (hy : -9223372036854775808 ≤ y ∧ y ≤ 9223372036854775807) : Int64.ofInt x = Int64.ofInt y ↔ x = y := by
  rw [← Int64.toInt_inj, b_toL hx, b_toL hy]
theorem b_h0 {n : Nat} {a : bV} {r : List bV} (h : ∀ x ∈ a :: r, b_okv n x) : b_okv n a := h _ List.mem_cons_self
theorem b_h1 {n : Nat} {a b : bV} {r : List bV} (h : ∀ x ∈ a :: b :: r, b_okv n x) : b_okv n b := h _ (List.mem_cons_of_mem _ List.mem_cons_self)
theorem b_tl {n : Nat} {a : bV} {r : List bV} (h : ∀ x ∈ a :: r, b_okv n x) : ∀ x ∈ r, b_okv n x := fun x hx => h x (List.mem_cons_of_mem _ hx)
def b_and (x y : Int) : Int := (Int32.ofInt x &&& Int32.ofInt y).toInt
def b_or (x y : Int) : Int := (Int32.ofInt x ||| Int32.ofInt y).toInt
def b_xor (x y : Int) : Int := (Int32.ofInt x ^^^ Int32.ofInt y).toInt
def b_div (x y : Int) : Int := (Int32.ofInt x / Int32.ofInt y).toInt
def b_rem (x y : Int) : Int := (Int32.ofInt x - Int32.ofInt x / Int32.ofInt y * Int32.ofInt y).toInt
def b_shl (x y : Int) : Int := (Int32.ofInt x <<< (Int32.ofInt y &&& 31)).toInt
def b_shr (x y : Int) : Int := (Int32.ofInt x >>> (Int32.ofInt y &&& 31)).toInt
def b_ush (x y : Int) : Int := ((Int32.ofInt x).toUInt32 >>> ((Int32.ofInt y).toUInt32 &&& Int32.toUInt32 31)).toInt32.toInt
def b_land (x y : Int) : Int := (Int64.ofInt x &&& Int64.ofInt y).toInt
def b_lor (x y : Int) : Int := (Int64.ofInt x ||| Int64.ofInt y).toInt
def b_lxor (x y : Int) : Int := (Int64.ofInt x ^^^ Int64.ofInt y).toInt
def b_ldiv (x y : Int) : Int := (Int64.ofInt x / Int64.ofInt y).toInt
def b_lrem (x y : Int) : Int := (Int64.ofInt x - Int64.ofInt x / Int64.ofInt y * Int64.ofInt y).toInt
variable {Z : bZ} {n u v pc q : Nat} {ls st : List bV} {w : bW}

theorem x_iconst (c : Int) {z : Int} (hd : decode (bZ_M Z).2.1 pc = .ok (.iconst c, 1)) (hv : Int32.ofInt c = Int32.ofInt z) (hr : -2147483648 ≤ z ∧ z ≤ 2147483647) (hq : pc + 1 = q) (k : b_X Z n u v q ls ((0, z) :: st) w) : b_X Z n u v pc ls st w := by
  subst hq
  exact b_stk (b_all0 (b_oki hr)) (fun E p e R s m args below meth c H locs Q ad lsA hx hb hown hts hl hst k => lv_iconst hx hb hd hv k) k
theorem x_bipush (c : Int) {z : Int} (hd : decode (bZ_M Z).2.1 pc = .ok (.bipush c, 2)) (hv : (Int8.ofInt c).toInt32 = Int32.ofInt z) (hr : -2147483648 ≤ z ∧ z ≤ 2147483647) (hq : pc + 2 = q) (k : b_X Z n u v q ls ((0, z) :: st) w) : b_X Z n u v pc ls st w := by
  subst hq
  exact b_stk (b_all0 (b_oki hr)) (fun E p e R s m args below meth c H locs Q ad lsA hx hb hown hts hl hst k => lv_bipush hx hb hd hv k) k
theorem x_sipush (c : Int) {z : Int} (hd : decode (bZ_M Z).2.1 pc = .ok (.sipush c, 3)) (hv : (Int16.ofInt c).toInt32 = Int32.ofInt z) (hr : -2147483648 ≤ z ∧ z ≤ 2147483647) (hq : pc + 3 = q) (k : b_X Z n u v q ls ((0, z) :: st) w) : b_X Z n u v pc ls st w := by
  subst hq
  exact b_stk (b_all0 (b_oki hr)) (fun E p e R s m args below meth c H locs Q ad lsA hx hb hown hts hl hst k => lv_sipush hx hb hd hv k) k
theorem x_lconst (c : Fin 2) {z : Int} (hd : decode (bZ_M Z).2.1 pc = .ok (.lconst c, 1)) (hv : Int64.ofNat (c : Nat) = Int64.ofInt z) (hr : -9223372036854775808 ≤ z ∧ z ≤ 9223372036854775807) (hq : pc + 1 = q) (k : b_X Z n u v q ls ((1, z) :: st) w) : b_X Z n u v pc ls st w := by
  subst hq
  exact b_stk (b_all0 (b_okl hr)) (fun E p e R s m args below meth c H locs Q ad lsA hx hb hown hts hl hst k => lv_lconst hx hb hd hv k) k
theorem x_null (hd : decode (bZ_M Z).2.1 pc = .ok (.aconst_null, 1)) (hq : pc + 1 = q) (k : b_X Z n u v q ls ((2, -1) :: st) w) : b_X Z n u v pc ls st w := by
  subst hq
  exact b_stk (b_all0 (b_okr (by omega))) (fun E p e R s m args below meth c H locs Q ad lsA hx hb hown hts hl hst k => lv_null hx hb hd k) k
theorem x_iload (i : Nat) {z : Int} (hd : decode (bZ_M Z).2.1 pc = .ok (.iload i, 2)) (hv : ls[i]? = some (0, z)) (hq : pc + 2 = q) (k : b_X Z n u v q ls ((0, z) :: st) w) : b_X Z n u v pc ls st w := by
  subst hq
  intro E p e s m args below meth c H locs ad0 ad lsA hC hG hb ha0 hn hR hS hl hls hst
  exact lv_iload hC.1 hC.2.1 hd (b_lvs_at hl hv (by simp)) (k E p e s m args below meth c H locs ad0 ad lsA hC hG hb ha0 hn hR hS hl hls (b_all0 (hls _ (List.mem_of_getElem? hv)) hst))
theorem x_iload_n (i : Fin 4) {j : Nat} {z : Int} (hd : decode (bZ_M Z).2.1 pc = .ok (.iload_n i, 1)) (hj : (i : Nat) = j) (hv : ls[j]? = some (0, z)) (hq : pc + 1 = q) (k : b_X Z n u v q ls ((0, z) :: st) w) : b_X Z n u v pc ls st w := by
  subst hq
  intro E p e s m args below meth c H locs ad0 ad lsA hC hG hb ha0 hn hR hS hl hls hst
  exact lv_iload_n hC.1 hC.2.1 hd hj (b_lvs_at hl hv (by simp)) (k E p e s m args below meth c H locs ad0 ad lsA hC hG hb ha0 hn hR hS hl hls (b_all0 (hls _ (List.mem_of_getElem? hv)) hst))
theorem x_lload (i : Nat) {z : Int} (hd : decode (bZ_M Z).2.1 pc = .ok (.lload i, 2)) (hv : ls[i]? = some (1, z)) (hq : pc + 2 = q) (k : b_X Z n u v q ls ((1, z) :: st) w) : b_X Z n u v pc ls st w := by
  subst hq
  intro E p e s m args below meth c H locs ad0 ad lsA hC hG hb ha0 hn hR hS hl hls hst
  exact lv_lload hC.1 hC.2.1 hd (b_lvs_at hl hv (by simp)) (k E p e s m args below meth c H locs ad0 ad lsA hC hG hb ha0 hn hR hS hl hls (b_all0 (hls _ (List.mem_of_getElem? hv)) hst))
theorem x_lload_n (i : Fin 4) {j : Nat} {z : Int} (hd : decode (bZ_M Z).2.1 pc = .ok (.lload_n i, 1)) (hj : (i : Nat) = j) (hv : ls[j]? = some (1, z)) (hq : pc + 1 = q) (k : b_X Z n u v q ls ((1, z) :: st) w) : b_X Z n u v pc ls st w := by
  subst hq
  intro E p e s m args below meth c H locs ad0 ad lsA hC hG hb ha0 hn hR hS hl hls hst
  exact lv_lload_n hC.1 hC.2.1 hd hj (b_lvs_at hl hv (by simp)) (k E p e s m args below meth c H locs ad0 ad lsA hC hG hb ha0 hn hR hS hl hls (b_all0 (hls _ (List.mem_of_getElem? hv)) hst))
theorem b_ref (E : bE) (ad : Nat → Nat) {t : bV} (h2 : 2 ≤ t.1) : b_vl E ad t = .null ∨ ∃ a, b_vl E ad t = .ref a := by
  obtain ⟨t, x⟩ := t
  simp only at h2
  unfold b_vl
  split
  · rename_i h; simp only at h; omega
  · rename_i h; simp only at h; omega
  · split
    · exact Or.inl rfl
    · exact Or.inr ⟨_, rfl⟩
  all_goals exact Or.inr ⟨_, rfl⟩
theorem x_aload (i : Nat) {t : bV} (hd : decode (bZ_M Z).2.1 pc = .ok (.aload i, 2)) (hv : ls[i]? = some t) (h2 : Nat.ble 2 t.1 = true) (h9 : Nat.beq t.1 9 = false) (hq : pc + 2 = q) (k : b_X Z n u v q ls (t :: st) w) : b_X Z n u v pc ls st w := by
  subst hq
  have h9' : t.1 ≠ 9 := fun e => by rw [e] at h9; cases h9
  intro E p e s m args below meth c H locs ad0 ad lsA hC hG hb ha0 hn hR hS hl hls hst
  have hk := k E p e s m args below meth c H locs ad0 ad lsA hC hG hb ha0 hn hR hS hl hls (b_all0 (hls _ (List.mem_of_getElem? hv)) hst)
  have hat := b_lvs_at hl hv h9'
  rcases b_ref E ad (Nat.le_of_ble_eq_true h2) with h | ⟨a, h⟩
  · rw [List.map_cons, h] at hk
    rw [h] at hat
    exact lv_aloadN hC.1 hC.2.1 hd hat hk
  · rw [List.map_cons, h] at hk
    rw [h] at hat
    exact lv_aload hC.1 hC.2.1 hd hat hk
theorem x_aload_n (i : Fin 4) {j : Nat} {t : bV} (hd : decode (bZ_M Z).2.1 pc = .ok (.aload_n i, 1)) (hj : (i : Nat) = j) (hv : ls[j]? = some t) (h2 : Nat.ble 2 t.1 = true) (h9 : Nat.beq t.1 9 = false) (hq : pc + 1 = q) (k : b_X Z n u v q ls (t :: st) w) : b_X Z n u v pc ls st w := by
  subst hq
  have h9' : t.1 ≠ 9 := fun e => by rw [e] at h9; cases h9
  intro E p e s m args below meth c H locs ad0 ad lsA hC hG hb ha0 hn hR hS hl hls hst
  have hk := k E p e s m args below meth c H locs ad0 ad lsA hC hG hb ha0 hn hR hS hl hls (b_all0 (hls _ (List.mem_of_getElem? hv)) hst)
  have hat := b_lvs_at hl hv h9'
  rcases b_ref E ad (Nat.le_of_ble_eq_true h2) with h | ⟨a, h⟩
  · rw [List.map_cons, h] at hk
    rw [h] at hat
    exact lv_aload_nN hC.1 hC.2.1 hd hj hat hk
  · rw [List.map_cons, h] at hk
    rw [h] at hat
    exact lv_aload_n hC.1 hC.2.1 hd hj hat hk
theorem x_iadd {x y : Int} (hd : decode (bZ_M Z).2.1 pc = .ok (.iadd, 1)) (hq : pc + 1 = q) (k : b_X Z n u v q ls ((0, b_i (x + y)) :: st) w) : b_X Z n u v pc ls ((0, y) :: (0, x) :: st) w := by
  subst hq
  refine b_stk (b_all2 (fun hs => b_oki (b_i_r _))) (fun E p e R s m args below meth c H locs Q ad lsA hx hb hown hts hl hst k => lv_iadd hx hb hd ?_) k
  have k : W p (bE_l E) e R s m args below meth c H locs u v Q (F0 m (pc + 1) lsA (.int (Int32.ofInt (b_i (x + y))) :: st.map (b_vl E ad))) := k
  rw [b_ofi, Int32.ofInt_add] at k
  exact k
theorem x_isub {x y : Int} (hd : decode (bZ_M Z).2.1 pc = .ok (.isub, 1)) (hq : pc + 1 = q) (k : b_X Z n u v q ls ((0, b_i (x - y)) :: st) w) : b_X Z n u v pc ls ((0, y) :: (0, x) :: st) w := by
  subst hq
  refine b_stk (b_all2 (fun hs => b_oki (b_i_r _))) (fun E p e R s m args below meth c H locs Q ad lsA hx hb hown hts hl hst k => lv_isub hx hb hd ?_) k
  have k : W p (bE_l E) e R s m args below meth c H locs u v Q (F0 m (pc + 1) lsA (.int (Int32.ofInt (b_i (x - y))) :: st.map (b_vl E ad))) := k
  rw [b_ofi, Int32.ofInt_sub] at k
  exact k
theorem x_imul {x y : Int} (hd : decode (bZ_M Z).2.1 pc = .ok (.imul, 1)) (hq : pc + 1 = q) (k : b_X Z n u v q ls ((0, b_i (x * y)) :: st) w) : b_X Z n u v pc ls ((0, y) :: (0, x) :: st) w := by
  subst hq
  refine b_stk (b_all2 (fun hs => b_oki (b_i_r _))) (fun E p e R s m args below meth c H locs Q ad lsA hx hb hown hts hl hst k => lv_imul hx hb hd ?_) k
  have k : W p (bE_l E) e R s m args below meth c H locs u v Q (F0 m (pc + 1) lsA (.int (Int32.ofInt (b_i (x * y))) :: st.map (b_vl E ad))) := k
  rw [b_ofi, Int32.ofInt_mul] at k
  exact k
theorem x_ladd {x y : Int} (hd : decode (bZ_M Z).2.1 pc = .ok (.ladd, 1)) (hq : pc + 1 = q) (k : b_X Z n u v q ls ((1, b_l (x + y)) :: st) w) : b_X Z n u v pc ls ((1, y) :: (1, x) :: st) w := by
  subst hq
  refine b_stk (b_all2 (fun hs => b_okl (b_l_r _))) (fun E p e R s m args below meth c H locs Q ad lsA hx hb hown hts hl hst k => lv_ladd hx hb hd ?_) k
  have k : W p (bE_l E) e R s m args below meth c H locs u v Q (F0 m (pc + 1) lsA (.long (Int64.ofInt (b_l (x + y))) :: st.map (b_vl E ad))) := k
  rw [b_ofl, Int64.ofInt_add] at k
  exact k
theorem x_lsub {x y : Int} (hd : decode (bZ_M Z).2.1 pc = .ok (.lsub, 1)) (hq : pc + 1 = q) (k : b_X Z n u v q ls ((1, b_l (x - y)) :: st) w) : b_X Z n u v pc ls ((1, y) :: (1, x) :: st) w := by
  subst hq
  refine b_stk (b_all2 (fun hs => b_okl (b_l_r _))) (fun E p e R s m args below meth c H locs Q ad lsA hx hb hown hts hl hst k => lv_lsub hx hb hd ?_) k
  have k : W p (bE_l E) e R s m args below meth c H locs u v Q (F0 m (pc + 1) lsA (.long (Int64.ofInt (b_l (x - y))) :: st.map (b_vl E ad))) := k
  rw [b_ofl, Int64.ofInt_sub] at k
  exact k
theorem x_lmul {x y : Int} (hd : decode (bZ_M Z).2.1 pc = .ok (.lmul, 1)) (hq : pc + 1 = q) (k : b_X Z n u v q ls ((1, b_l (x * y)) :: st) w) : b_X Z n u v pc ls ((1, y) :: (1, x) :: st) w := by
  subst hq
  refine b_stk (b_all2 (fun hs => b_okl (b_l_r _))) (fun E p e R s m args below meth c H locs Q ad lsA hx hb hown hts hl hst k => lv_lmul hx hb hd ?_) k
  have k : W p (bE_l E) e R s m args below meth c H locs u v Q (F0 m (pc + 1) lsA (.long (Int64.ofInt (b_l (x * y))) :: st.map (b_vl E ad))) := k
  rw [b_ofl, Int64.ofInt_mul] at k
  exact k
theorem x_iand {x y : Int} (hd : decode (bZ_M Z).2.1 pc = .ok (.iand, 1)) (hq : pc + 1 = q) (k : b_X Z n u v q ls ((0, b_and x y) :: st) w) : b_X Z n u v pc ls ((0, y) :: (0, x) :: st) w := by
  subst hq
  refine b_stk (b_all2 (fun hs => b_oki (b_tr _))) (fun E p e R s m args below meth c H locs Q ad lsA hx hb hown hts hl hst k => lv_iand hx hb hd ?_) k
  have k : W p (bE_l E) e R s m args below meth c H locs u v Q (F0 m (pc + 1) lsA (.int (Int32.ofInt (b_and x y)) :: st.map (b_vl E ad))) := k
  rw [b_and, Int32.ofInt_toInt] at k
  exact k
theorem x_ior {x y : Int} (hd : decode (bZ_M Z).2.1 pc = .ok (.ior, 1)) (hq : pc + 1 = q) (k : b_X Z n u v q ls ((0, b_or x y) :: st) w) : b_X Z n u v pc ls ((0, y) :: (0, x) :: st) w := by
  subst hq
  refine b_stk (b_all2 (fun hs => b_oki (b_tr _))) (fun E p e R s m args below meth c H locs Q ad lsA hx hb hown hts hl hst k => lv_ior hx hb hd ?_) k
  have k : W p (bE_l E) e R s m args below meth c H locs u v Q (F0 m (pc + 1) lsA (.int (Int32.ofInt (b_or x y)) :: st.map (b_vl E ad))) := k
  rw [b_or, Int32.ofInt_toInt] at k
  exact k
theorem x_ixor {x y : Int} (hd : decode (bZ_M Z).2.1 pc = .ok (.ixor, 1)) (hq : pc + 1 = q) (k : b_X Z n u v q ls ((0, b_xor x y) :: st) w) : b_X Z n u v pc ls ((0, y) :: (0, x) :: st) w := by
  subst hq
  refine b_stk (b_all2 (fun hs => b_oki (b_tr _))) (fun E p e R s m args below meth c H locs Q ad lsA hx hb hown hts hl hst k => lv_ixor hx hb hd ?_) k
  have k : W p (bE_l E) e R s m args below meth c H locs u v Q (F0 m (pc + 1) lsA (.int (Int32.ofInt (b_xor x y)) :: st.map (b_vl E ad))) := k
  rw [b_xor, Int32.ofInt_toInt] at k
  exact k
theorem x_ishl {x y : Int} (hd : decode (bZ_M Z).2.1 pc = .ok (.ishl, 1)) (hq : pc + 1 = q) (k : b_X Z n u v q ls ((0, b_shl x y) :: st) w) : b_X Z n u v pc ls ((0, y) :: (0, x) :: st) w := by
  subst hq
  refine b_stk (b_all2 (fun hs => b_oki (b_tr _))) (fun E p e R s m args below meth c H locs Q ad lsA hx hb hown hts hl hst k => lv_ishl hx hb hd ?_) k
  have k : W p (bE_l E) e R s m args below meth c H locs u v Q (F0 m (pc + 1) lsA (.int (Int32.ofInt (b_shl x y)) :: st.map (b_vl E ad))) := k
  rw [b_shl, Int32.ofInt_toInt] at k
  exact k
theorem x_ishr {x y : Int} (hd : decode (bZ_M Z).2.1 pc = .ok (.ishr, 1)) (hq : pc + 1 = q) (k : b_X Z n u v q ls ((0, b_shr x y) :: st) w) : b_X Z n u v pc ls ((0, y) :: (0, x) :: st) w := by
  subst hq
  refine b_stk (b_all2 (fun hs => b_oki (b_tr _))) (fun E p e R s m args below meth c H locs Q ad lsA hx hb hown hts hl hst k => lv_ishr hx hb hd ?_) k
  have k : W p (bE_l E) e R s m args below meth c H locs u v Q (F0 m (pc + 1) lsA (.int (Int32.ofInt (b_shr x y)) :: st.map (b_vl E ad))) := k
  rw [b_shr, Int32.ofInt_toInt] at k
  exact k
theorem x_land {x y : Int} (hd : decode (bZ_M Z).2.1 pc = .ok (.land, 1)) (hq : pc + 1 = q) (k : b_X Z n u v q ls ((1, b_land x y) :: st) w) : b_X Z n u v pc ls ((1, y) :: (1, x) :: st) w := by
  subst hq
  refine b_stk (b_all2 (fun hs => b_okl (b_trl _))) (fun E p e R s m args below meth c H locs Q ad lsA hx hb hown hts hl hst k => lv_land hx hb hd ?_) k
  have k : W p (bE_l E) e R s m args below meth c H locs u v Q (F0 m (pc + 1) lsA (.long (Int64.ofInt (b_land x y)) :: st.map (b_vl E ad))) := k
  rw [b_land, Int64.ofInt_toInt] at k
  exact k
theorem x_lor {x y : Int} (hd : decode (bZ_M Z).2.1 pc = .ok (.lor, 1)) (hq : pc + 1 = q) (k : b_X Z n u v q ls ((1, b_lor x y) :: st) w) : b_X Z n u v pc ls ((1, y) :: (1, x) :: st) w := by
  subst hq
  refine b_stk (b_all2 (fun hs => b_okl (b_trl _))) (fun E p e R s m args below meth c H locs Q ad lsA hx hb hown hts hl hst k => lv_lor hx hb hd ?_) k
  have k : W p (bE_l E) e R s m args below meth c H locs u v Q (F0 m (pc + 1) lsA (.long (Int64.ofInt (b_lor x y)) :: st.map (b_vl E ad))) := k
  rw [b_lor, Int64.ofInt_toInt] at k
  exact k
theorem x_lxor {x y : Int} (hd : decode (bZ_M Z).2.1 pc = .ok (.lxor, 1)) (hq : pc + 1 = q) (k : b_X Z n u v q ls ((1, b_lxor x y) :: st) w) : b_X Z n u v pc ls ((1, y) :: (1, x) :: st) w := by
  subst hq
  refine b_stk (b_all2 (fun hs => b_okl (b_trl _))) (fun E p e R s m args below meth c H locs Q ad lsA hx hb hown hts hl hst k => lv_lxor hx hb hd ?_) k
  have k : W p (bE_l E) e R s m args below meth c H locs u v Q (F0 m (pc + 1) lsA (.long (Int64.ofInt (b_lxor x y)) :: st.map (b_vl E ad))) := k
  rw [b_lxor, Int64.ofInt_toInt] at k
  exact k
theorem x_iushr {x y : Int} (hd : decode (bZ_M Z).2.1 pc = .ok (.iushr, 1)) (hq : pc + 1 = q) (k : b_X Z n u v q ls ((0, b_ush x y) :: st) w) : b_X Z n u v pc ls ((0, y) :: (0, x) :: st) w := by
  subst hq
  exact b_stk (b_all2 (fun hs => b_oki (b_tr _))) (fun E p e R s m args below meth c H locs Q ad lsA hx hb hown hts hl hst k => lv_iushr (v := Int32.ofInt (b_ush x y)) hx hb hd (by rw [b_ush, Int32.ofInt_toInt]) k) k
def b_lush (x y : Int) : Int := ((Int64.ofInt x).toUInt64 >>> ((Int32.ofInt y).toInt64.toUInt64 &&& Int64.toUInt64 63)).toInt64.toInt
def b_lshl (x y : Int) : Int := (Int64.ofInt x <<< ((Int32.ofInt y).toInt64 &&& 63)).toInt
def b_lshr (x y : Int) : Int := (Int64.ofInt x >>> ((Int32.ofInt y).toInt64 &&& 63)).toInt
theorem x_lushr {x y : Int} (hd : decode (bZ_M Z).2.1 pc = .ok (.lushr, 1)) (hq : pc + 1 = q) (k : b_X Z n u v q ls ((1, b_lush x y) :: st) w) : b_X Z n u v pc ls ((0, y) :: (1, x) :: st) w := by
  subst hq
  exact b_stk (b_all2 (fun hs => b_okl (b_trl _))) (fun E p e R s m args below meth c H locs Q ad lsA hx hb hown hts hl hst k => lv_lushr (v := Int64.ofInt (b_lush x y)) hx hb hd (by rw [b_lush, Int64.ofInt_toInt]) k) k
theorem x_lshl {x y : Int} (hd : decode (bZ_M Z).2.1 pc = .ok (.lshl, 1)) (hq : pc + 1 = q) (k : b_X Z n u v q ls ((1, b_lshl x y) :: st) w) : b_X Z n u v pc ls ((0, y) :: (1, x) :: st) w := by
  subst hq
  exact b_stk (b_all2 (fun hs => b_okl (b_trl _))) (fun E p e R s m args below meth c H locs Q ad lsA hx hb hown hts hl hst k => lv_lshl (v := Int64.ofInt (b_lshl x y)) hx hb hd (by rw [b_lshl, Int64.ofInt_toInt]) k) k
theorem x_lshr {x y : Int} (hd : decode (bZ_M Z).2.1 pc = .ok (.lshr, 1)) (hq : pc + 1 = q) (k : b_X Z n u v q ls ((1, b_lshr x y) :: st) w) : b_X Z n u v pc ls ((0, y) :: (1, x) :: st) w := by
  subst hq
  exact b_stk (b_all2 (fun hs => b_okl (b_trl _))) (fun E p e R s m args below meth c H locs Q ad lsA hx hb hown hts hl hst k => lv_lshr (v := Int64.ofInt (b_lshr x y)) hx hb hd (by rw [b_lshr, Int64.ofInt_toInt]) k) k
theorem b_i2l (x : Int) (h : -2147483648 ≤ x ∧ x ≤ 2147483647) : (Int32.ofInt x).toInt64 = Int64.ofInt x := by
  apply Int64.toInt_inj.mp
  rw [Int32.toInt_toInt64, b_toI h, b_toL (by omega)]
theorem b_l2i (x : Int) : (Int64.ofInt x).toInt32 = Int32.ofInt (b_i x) := by
  rw [b_ofi]
  apply Int32.toInt_inj.mp
  rw [Int64.toInt_toInt32, Int64.toInt_ofInt, Int32.toInt_ofInt]
  exact Int.bmod_bmod_of_dvd (by decide)
theorem b_i2b (x : Int) : (Int32.ofInt x).toInt8.toInt32 = Int32.ofInt (b_b8 x) := by
  apply Int32.toInt_inj.mp
  have h1 := Int.le_bmod (x := x) (m := 256) (by decide)
  have h2 := Int.bmod_lt (x := x) (m := 256) (by decide)
  rw [Int8.toInt_toInt32, Int32.toInt_toInt8, Int32.toInt_ofInt, b_toI (by unfold b_b8; omega)]
  exact Int.bmod_bmod_of_dvd (by decide)
theorem b_i2s (x : Int) : (Int32.ofInt x).toInt16.toInt32 = Int32.ofInt (b_s16 x) := by
  apply Int32.toInt_inj.mp
  have h1 := Int.le_bmod (x := x) (m := 65536) (by decide)
  have h2 := Int.bmod_lt (x := x) (m := 65536) (by decide)
  rw [Int16.toInt_toInt32, Int32.toInt_toInt16, Int32.toInt_ofInt, b_toI (by unfold b_s16; omega)]
  exact Int.bmod_bmod_of_dvd (by decide)
theorem b_b8_r (z : Int) : -128 ≤ b_b8 z ∧ b_b8 z ≤ 127 := by
  unfold b_b8
  have h1 := Int.le_bmod (x := z) (m := 256) (by decide)
  have h2 := Int.bmod_lt (x := z) (m := 256) (by decide)
  omega
theorem b_s16_r (z : Int) : -32768 ≤ b_s16 z ∧ b_s16 z ≤ 32767 := by
  unfold b_s16
  have h1 := Int.le_bmod (x := z) (m := 65536) (by decide)
  have h2 := Int.bmod_lt (x := z) (m := 65536) (by decide)
  omega
def b_c16 (x : Int) : Int := ((Int32.ofInt x).toUInt32 % 65536).toInt32.toInt

theorem x_i2l {x : Int} (hd : decode (bZ_M Z).2.1 pc = .ok (.i2l, 1)) (hq : pc + 1 = q) (k : b_X Z n u v q ls ((1, x) :: st) w) : b_X Z n u v pc ls ((0, x) :: st) w := by
  subst hq
  exact b_stk (b_all1 (fun hs => b_okl (by have := b_ri (b_h0 hs); omega))) (fun E p e R s m args below meth c H locs Q ad lsA hx hb hown hts hl hst k => lv_i2l hx hb hd (b_i2l x (b_ri (b_h0 hst))) k) k
theorem x_l2i {x : Int} (hd : decode (bZ_M Z).2.1 pc = .ok (.l2i, 1)) (hq : pc + 1 = q) (k : b_X Z n u v q ls ((0, b_i x) :: st) w) : b_X Z n u v pc ls ((1, x) :: st) w := by
  subst hq
  exact b_stk (b_all1 (fun hs => b_oki (b_i_r _))) (fun E p e R s m args below meth c H locs Q ad lsA hx hb hown hts hl hst k => lv_l2i hx hb hd (b_l2i x) k) k
theorem x_i2b {x : Int} (hd : decode (bZ_M Z).2.1 pc = .ok (.i2b, 1)) (hq : pc + 1 = q) (k : b_X Z n u v q ls ((0, b_b8 x) :: st) w) : b_X Z n u v pc ls ((0, x) :: st) w := by
  subst hq
  exact b_stk (b_all1 (fun hs => b_oki (by have := b_b8_r x; omega))) (fun E p e R s m args below meth c H locs Q ad lsA hx hb hown hts hl hst k => lv_i2b hx hb hd (b_i2b x) k) k
theorem x_i2s {x : Int} (hd : decode (bZ_M Z).2.1 pc = .ok (.i2s, 1)) (hq : pc + 1 = q) (k : b_X Z n u v q ls ((0, b_s16 x) :: st) w) : b_X Z n u v pc ls ((0, x) :: st) w := by
  subst hq
  exact b_stk (b_all1 (fun hs => b_oki (by have := b_s16_r x; omega))) (fun E p e R s m args below meth c H locs Q ad lsA hx hb hown hts hl hst k => lv_i2s hx hb hd (b_i2s x) k) k
theorem x_i2c {x : Int} (hd : decode (bZ_M Z).2.1 pc = .ok (.i2c, 1)) (hq : pc + 1 = q) (k : b_X Z n u v q ls ((0, b_c16 x) :: st) w) : b_X Z n u v pc ls ((0, x) :: st) w := by
  subst hq
  exact b_stk (b_all1 (fun hs => b_oki (b_tr _))) (fun E p e R s m args below meth c H locs Q ad lsA hx hb hown hts hl hst k => lv_i2c hx hb hd (show _ = Int32.ofInt (b_c16 x) by rw [b_c16, Int32.ofInt_toInt]) k) k
theorem x_ineg {x : Int} (hd : decode (bZ_M Z).2.1 pc = .ok (.ineg, 1)) (hq : pc + 1 = q) (k : b_X Z n u v q ls ((0, b_i (-x)) :: st) w) : b_X Z n u v pc ls ((0, x) :: st) w := by
  subst hq
  refine b_stk (b_all1 (fun hs => b_oki (b_i_r _))) (fun E p e R s m args below meth c H locs Q ad lsA hx hb hown hts hl hst k => lv_ineg hx hb hd ?_) k
  have k : W p (bE_l E) e R s m args below meth c H locs u v Q (F0 m (pc + 1) lsA (.int (Int32.ofInt (b_i (-x))) :: st.map (b_vl E ad))) := k
  rw [b_ofi, Int32.ofInt_neg] at k
  exact k
theorem x_lneg {x : Int} (hd : decode (bZ_M Z).2.1 pc = .ok (.lneg, 1)) (hq : pc + 1 = q) (k : b_X Z n u v q ls ((1, b_l (-x)) :: st) w) : b_X Z n u v pc ls ((1, x) :: st) w := by
  subst hq
  refine b_stk (b_all1 (fun hs => b_okl (b_l_r _))) (fun E p e R s m args below meth c H locs Q ad lsA hx hb hown hts hl hst k => lv_lneg hx hb hd ?_) k
  have k : W p (bE_l E) e R s m args below meth c H locs u v Q (F0 m (pc + 1) lsA (.long (Int64.ofInt (b_l (-x))) :: st.map (b_vl E ad))) := k
  rw [b_ofl, Int64.ofInt_neg] at k
  exact k
theorem x_idiv {x y : Int} (hd : decode (bZ_M Z).2.1 pc = .ok (.idiv, 1)) (h0 : y ≠ 0) (hq : pc + 1 = q) (k : b_X Z n u v q ls ((0, b_div x y) :: st) w) : b_X Z n u v pc ls ((0, y) :: (0, x) :: st) w := by
  subst hq
  refine b_stk (b_all2 (fun hs => b_oki (b_tr _))) (fun E p e R s m args below meth c H locs Q ad lsA hx hb hown hts hl hst k => lv_idiv hx hb hd (fun h => h0 ((b_eqI (b_ri (b_h0 hst)) (y := 0) (by decide)).mp h)) ?_) k
  have k : W p (bE_l E) e R s m args below meth c H locs u v Q (F0 m (pc + 1) lsA (.int (Int32.ofInt (b_div x y)) :: st.map (b_vl E ad))) := k
  rw [b_div, Int32.ofInt_toInt] at k
  exact k
theorem x_irem {x y : Int} (hd : decode (bZ_M Z).2.1 pc = .ok (.irem, 1)) (h0 : y ≠ 0) (hq : pc + 1 = q) (k : b_X Z n u v q ls ((0, b_rem x y) :: st) w) : b_X Z n u v pc ls ((0, y) :: (0, x) :: st) w := by
  subst hq
  refine b_stk (b_all2 (fun hs => b_oki (b_tr _))) (fun E p e R s m args below meth c H locs Q ad lsA hx hb hown hts hl hst k => lv_irem hx hb hd (fun h => h0 ((b_eqI (b_ri (b_h0 hst)) (y := 0) (by decide)).mp h)) ?_) k
  have k : W p (bE_l E) e R s m args below meth c H locs u v Q (F0 m (pc + 1) lsA (.int (Int32.ofInt (b_rem x y)) :: st.map (b_vl E ad))) := k
  rw [b_rem, Int32.ofInt_toInt] at k
  exact k
theorem x_ldiv {x y : Int} (hd : decode (bZ_M Z).2.1 pc = .ok (.ldiv, 1)) (h0 : y ≠ 0) (hq : pc + 1 = q) (k : b_X Z n u v q ls ((1, b_ldiv x y) :: st) w) : b_X Z n u v pc ls ((1, y) :: (1, x) :: st) w := by
  subst hq
  refine b_stk (b_all2 (fun hs => b_okl (b_trl _))) (fun E p e R s m args below meth c H locs Q ad lsA hx hb hown hts hl hst k => lv_ldiv hx hb hd (fun h => h0 ((b_eqL (b_rl (b_h0 hst)) (y := 0) (by decide)).mp h)) ?_) k
  have k : W p (bE_l E) e R s m args below meth c H locs u v Q (F0 m (pc + 1) lsA (.long (Int64.ofInt (b_ldiv x y)) :: st.map (b_vl E ad))) := k
  rw [b_ldiv, Int64.ofInt_toInt] at k
  exact k
theorem x_lrem {x y : Int} (hd : decode (bZ_M Z).2.1 pc = .ok (.lrem, 1)) (h0 : y ≠ 0) (hq : pc + 1 = q) (k : b_X Z n u v q ls ((1, b_lrem x y) :: st) w) : b_X Z n u v pc ls ((1, y) :: (1, x) :: st) w := by
  subst hq
  refine b_stk (b_all2 (fun hs => b_okl (b_trl _))) (fun E p e R s m args below meth c H locs Q ad lsA hx hb hown hts hl hst k => lv_lrem hx hb hd (fun h => h0 ((b_eqL (b_rl (b_h0 hst)) (y := 0) (by decide)).mp h)) ?_) k
  have k : W p (bE_l E) e R s m args below meth c H locs u v Q (F0 m (pc + 1) lsA (.long (Int64.ofInt (b_lrem x y)) :: st.map (b_vl E ad))) := k
  rw [b_lrem, Int64.ofInt_toInt] at k
  exact k
theorem b_cat1 (E : bE) (ad : Nat → Nat) {t : bV} (h : Nat.beq t.1 1 = false) : (b_vl E ad t).category = 1 := by
  obtain ⟨t, x⟩ := t
  unfold b_vl
  split
  · rfl
  · rename_i h'; simp only at h h'; subst h'; cases h
  · split <;> rfl
  all_goals rfl
theorem b_cat2 (E : bE) (ad : Nat → Nat) {t : bV} (h : t.1 = 1) : (b_vl E ad t).category = 2 := by
  obtain ⟨t, x⟩ := t
  simp only at h
  subst h
  rfl
theorem x_dup {a : bV} (hd : decode (bZ_M Z).2.1 pc = .ok (.dup, 1)) (ha : Nat.beq a.1 1 = false) (hq : pc + 1 = q) (k : b_X Z n u v q ls (a :: a :: st) w) : b_X Z n u v pc ls (a :: st) w := by
  subst hq
  exact b_stk (fun hs => b_all0 (b_h0 hs) hs) (fun E p e R s m args below meth c H locs Q ad lsA hx hb hown hts hl hst k => lv_dup hx hb hd (b_cat1 E ad ha) k) k
theorem x_pop {a : bV} (hd : decode (bZ_M Z).2.1 pc = .ok (.pop, 1)) (ha : Nat.beq a.1 1 = false) (hq : pc + 1 = q) (k : b_X Z n u v q ls st w) : b_X Z n u v pc ls (a :: st) w := by
  subst hq
  exact b_stk b_tl (fun E p e R s m args below meth c H locs Q ad lsA hx hb hown hts hl hst k => lv_pop hx hb hd (b_cat1 E ad ha) k) k
theorem x_dup_x1 {a b : bV} (hd : decode (bZ_M Z).2.1 pc = .ok (.dup_x1, 1)) (ha : Nat.beq a.1 1 = false) (hb1 : Nat.beq b.1 1 = false) (hq : pc + 1 = q) (k : b_X Z n u v q ls (a :: b :: a :: st) w) : b_X Z n u v pc ls (a :: b :: st) w := by
  subst hq
  exact b_stk (fun hs => b_all0 (b_h0 hs) (b_all0 (b_h1 hs) (b_all0 (b_h0 hs) (b_tl (b_tl hs))))) (fun E p e R s m args below meth c H locs Q ad lsA hx hb hown hts hl hst k => lv_dup_x1 hx hb hd (b_cat1 E ad ha) (b_cat1 E ad hb1) k) k
theorem x_dup2 {a b : bV} (hd : decode (bZ_M Z).2.1 pc = .ok (.dup2, 1)) (ha : Nat.beq a.1 1 = false) (hb1 : Nat.beq b.1 1 = false) (hq : pc + 1 = q) (k : b_X Z n u v q ls (a :: b :: a :: b :: st) w) : b_X Z n u v pc ls (a :: b :: st) w := by
  subst hq
  exact b_stk (fun hs => b_all0 (b_h0 hs) (b_all0 (b_h1 hs) hs)) (fun E p e R s m args below meth c H locs Q ad lsA hx hb hown hts hl hst k => lv_dup2_11 hx hb hd (b_cat1 E ad ha) (b_cat1 E ad hb1) k) k
theorem x_dup2l {a : bV} (hd : decode (bZ_M Z).2.1 pc = .ok (.dup2, 1)) (ha : a.1 = 1) (hq : pc + 1 = q) (k : b_X Z n u v q ls (a :: a :: st) w) : b_X Z n u v pc ls (a :: st) w := by
  subst hq
  exact b_stk (fun hs => b_all0 (b_h0 hs) hs) (fun E p e R s m args below meth c H locs Q ad lsA hx hb hown hts hl hst k => lv_dup2_2 hx hb hd (b_cat2 E ad ha) k) k
theorem x_pop2l {a : bV} (hd : decode (bZ_M Z).2.1 pc = .ok (.pop2, 1)) (ha : a.1 = 1) (hq : pc + 1 = q) (k : b_X Z n u v q ls st w) : b_X Z n u v pc ls (a :: st) w := by
  subst hq
  exact b_stk b_tl (fun E p e R s m args below meth c H locs Q ad lsA hx hb hown hts hl hst k => lv_pop2_2 hx hb hd (b_cat2 E ad ha) k) k
theorem x_goto (off : Int) (hd : decode (bZ_M Z).2.1 pc = .ok (.goto off, 3)) (hq : (pc : Int) + off = (q : Int)) (k : b_X Z n u v q ls st w) : b_X Z n u v pc ls st w :=
  b_stk (fun hs => hs) (fun E p e R s m args below meth c H locs Q ad lsA hx hb hown hts hl hst k => lv_goto hx hb hd hq k) k
theorem x_if_eq {x : Int} {t : Nat} (off : Int) (hd : decode (bZ_M Z).2.1 pc = .ok (.ifCond .eq off, 3)) (ht : (pc : Int) + off = (t : Int)) (hq : pc + 3 = q) (k : if x = 0 then b_X Z n u v t ls st w else b_X Z n u v q ls st w) : b_X Z n u v pc ls ((0, x) :: st) w := by
  subst hq
  intro E p e s m args below meth c H locs ad0 ad lsA hC hG hb ha0 hn hR hS hl hls hst
  have hi := b_eqI (b_ri (b_h0 hst)) ((by decide : -2147483648 ≤ (0 : Int) ∧ (0 : Int) ≤ 2147483647))
  refine lv_if_eq hC.1 hC.2.1 hd ht (fun h => ?_) (fun h => ?_)
  · rw [if_pos (hi.mp h)] at k
    exact k E p e s m args below meth c H locs ad0 ad lsA hC hG hb ha0 hn hR hS hl hls (b_tl hst)
  · rw [if_neg (fun h' => h (hi.mpr h'))] at k
    exact k E p e s m args below meth c H locs ad0 ad lsA hC hG hb ha0 hn hR hS hl hls (b_tl hst)
theorem x_icmp_eq {x y : Int} {t : Nat} (off : Int) (hd : decode (bZ_M Z).2.1 pc = .ok (.if_icmp .eq off, 3)) (ht : (pc : Int) + off = (t : Int)) (hq : pc + 3 = q) (k : if x = y then b_X Z n u v t ls st w else b_X Z n u v q ls st w) : b_X Z n u v pc ls ((0, y) :: (0, x) :: st) w := by
  subst hq
  intro E p e s m args below meth c H locs ad0 ad lsA hC hG hb ha0 hn hR hS hl hls hst
  have hi := b_eqI (b_ri (b_h1 hst)) (b_ri (b_h0 hst))
  refine lv_icmp_eq hC.1 hC.2.1 hd ht (fun h => ?_) (fun h => ?_)
  · rw [if_pos (hi.mp h)] at k
    exact k E p e s m args below meth c H locs ad0 ad lsA hC hG hb ha0 hn hR hS hl hls ((fun h => b_tl (b_tl h)) hst)
  · rw [if_neg (fun h' => h (hi.mpr h'))] at k
    exact k E p e s m args below meth c H locs ad0 ad lsA hC hG hb ha0 hn hR hS hl hls ((fun h => b_tl (b_tl h)) hst)
theorem x_if_ne {x : Int} {t : Nat} (off : Int) (hd : decode (bZ_M Z).2.1 pc = .ok (.ifCond .ne off, 3)) (ht : (pc : Int) + off = (t : Int)) (hq : pc + 3 = q) (k : if x ≠ 0 then b_X Z n u v t ls st w else b_X Z n u v q ls st w) : b_X Z n u v pc ls ((0, x) :: st) w := by
  subst hq
  intro E p e s m args below meth c H locs ad0 ad lsA hC hG hb ha0 hn hR hS hl hls hst
  have hi := not_congr (b_eqI (b_ri (b_h0 hst)) ((by decide : -2147483648 ≤ (0 : Int) ∧ (0 : Int) ≤ 2147483647)))
  refine lv_if_ne hC.1 hC.2.1 hd ht (fun h => ?_) (fun h => ?_)
  · rw [if_pos (hi.mp h)] at k
    exact k E p e s m args below meth c H locs ad0 ad lsA hC hG hb ha0 hn hR hS hl hls (b_tl hst)
  · rw [if_neg (fun h' => (hi.mpr h') h)] at k
    exact k E p e s m args below meth c H locs ad0 ad lsA hC hG hb ha0 hn hR hS hl hls (b_tl hst)
theorem x_icmp_ne {x y : Int} {t : Nat} (off : Int) (hd : decode (bZ_M Z).2.1 pc = .ok (.if_icmp .ne off, 3)) (ht : (pc : Int) + off = (t : Int)) (hq : pc + 3 = q) (k : if x ≠ y then b_X Z n u v t ls st w else b_X Z n u v q ls st w) : b_X Z n u v pc ls ((0, y) :: (0, x) :: st) w := by
  subst hq
  intro E p e s m args below meth c H locs ad0 ad lsA hC hG hb ha0 hn hR hS hl hls hst
  have hi := not_congr (b_eqI (b_ri (b_h1 hst)) (b_ri (b_h0 hst)))
  refine lv_icmp_ne hC.1 hC.2.1 hd ht (fun h => ?_) (fun h => ?_)
  · rw [if_pos (hi.mp h)] at k
    exact k E p e s m args below meth c H locs ad0 ad lsA hC hG hb ha0 hn hR hS hl hls ((fun h => b_tl (b_tl h)) hst)
  · rw [if_neg (fun h' => (hi.mpr h') h)] at k
    exact k E p e s m args below meth c H locs ad0 ad lsA hC hG hb ha0 hn hR hS hl hls ((fun h => b_tl (b_tl h)) hst)
theorem x_if_lt {x : Int} {t : Nat} (off : Int) (hd : decode (bZ_M Z).2.1 pc = .ok (.ifCond .lt off, 3)) (ht : (pc : Int) + off = (t : Int)) (hq : pc + 3 = q) (k : if x < 0 then b_X Z n u v t ls st w else b_X Z n u v q ls st w) : b_X Z n u v pc ls ((0, x) :: st) w := by
  subst hq
  intro E p e s m args below meth c H locs ad0 ad lsA hC hG hb ha0 hn hR hS hl hls hst
  have hi := b_ltI (b_ri (b_h0 hst)) ((by decide : -2147483648 ≤ (0 : Int) ∧ (0 : Int) ≤ 2147483647))
  refine lv_if_lt hC.1 hC.2.1 hd ht (fun h => ?_) (fun h => ?_)
  · rw [if_pos (hi.mp h)] at k
    exact k E p e s m args below meth c H locs ad0 ad lsA hC hG hb ha0 hn hR hS hl hls (b_tl hst)
  · rw [if_neg (fun h' => h (hi.mpr h'))] at k
    exact k E p e s m args below meth c H locs ad0 ad lsA hC hG hb ha0 hn hR hS hl hls (b_tl hst)
theorem x_icmp_lt {x y : Int} {t : Nat} (off : Int) (hd : decode (bZ_M Z).2.1 pc = .ok (.if_icmp .lt off, 3)) (ht : (pc : Int) + off = (t : Int)) (hq : pc + 3 = q) (k : if x < y then b_X Z n u v t ls st w else b_X Z n u v q ls st w) : b_X Z n u v pc ls ((0, y) :: (0, x) :: st) w := by
  subst hq
  intro E p e s m args below meth c H locs ad0 ad lsA hC hG hb ha0 hn hR hS hl hls hst
  have hi := b_ltI (b_ri (b_h1 hst)) (b_ri (b_h0 hst))
  refine lv_icmp_lt hC.1 hC.2.1 hd ht (fun h => ?_) (fun h => ?_)
  · rw [if_pos (hi.mp h)] at k
    exact k E p e s m args below meth c H locs ad0 ad lsA hC hG hb ha0 hn hR hS hl hls ((fun h => b_tl (b_tl h)) hst)
  · rw [if_neg (fun h' => h (hi.mpr h'))] at k
    exact k E p e s m args below meth c H locs ad0 ad lsA hC hG hb ha0 hn hR hS hl hls ((fun h => b_tl (b_tl h)) hst)
theorem x_if_ge {x : Int} {t : Nat} (off : Int) (hd : decode (bZ_M Z).2.1 pc = .ok (.ifCond .ge off, 3)) (ht : (pc : Int) + off = (t : Int)) (hq : pc + 3 = q) (k : if 0 ≤ x then b_X Z n u v t ls st w else b_X Z n u v q ls st w) : b_X Z n u v pc ls ((0, x) :: st) w := by
  subst hq
  intro E p e s m args below meth c H locs ad0 ad lsA hC hG hb ha0 hn hR hS hl hls hst
  have hi := b_leI ((by decide : -2147483648 ≤ (0 : Int) ∧ (0 : Int) ≤ 2147483647)) (b_ri (b_h0 hst))
  refine lv_if_ge hC.1 hC.2.1 hd ht (fun h => ?_) (fun h => ?_)
  · rw [if_pos (hi.mp h)] at k
    exact k E p e s m args below meth c H locs ad0 ad lsA hC hG hb ha0 hn hR hS hl hls (b_tl hst)
  · rw [if_neg (fun h' => h (hi.mpr h'))] at k
    exact k E p e s m args below meth c H locs ad0 ad lsA hC hG hb ha0 hn hR hS hl hls (b_tl hst)
theorem x_icmp_ge {x y : Int} {t : Nat} (off : Int) (hd : decode (bZ_M Z).2.1 pc = .ok (.if_icmp .ge off, 3)) (ht : (pc : Int) + off = (t : Int)) (hq : pc + 3 = q) (k : if y ≤ x then b_X Z n u v t ls st w else b_X Z n u v q ls st w) : b_X Z n u v pc ls ((0, y) :: (0, x) :: st) w := by
  subst hq
  intro E p e s m args below meth c H locs ad0 ad lsA hC hG hb ha0 hn hR hS hl hls hst
  have hi := b_leI (b_ri (b_h0 hst)) (b_ri (b_h1 hst))
  refine lv_icmp_ge hC.1 hC.2.1 hd ht (fun h => ?_) (fun h => ?_)
  · rw [if_pos (hi.mp h)] at k
    exact k E p e s m args below meth c H locs ad0 ad lsA hC hG hb ha0 hn hR hS hl hls ((fun h => b_tl (b_tl h)) hst)
  · rw [if_neg (fun h' => h (hi.mpr h'))] at k
    exact k E p e s m args below meth c H locs ad0 ad lsA hC hG hb ha0 hn hR hS hl hls ((fun h => b_tl (b_tl h)) hst)
theorem x_if_gt {x : Int} {t : Nat} (off : Int) (hd : decode (bZ_M Z).2.1 pc = .ok (.ifCond .gt off, 3)) (ht : (pc : Int) + off = (t : Int)) (hq : pc + 3 = q) (k : if 0 < x then b_X Z n u v t ls st w else b_X Z n u v q ls st w) : b_X Z n u v pc ls ((0, x) :: st) w := by
  subst hq
  intro E p e s m args below meth c H locs ad0 ad lsA hC hG hb ha0 hn hR hS hl hls hst
  have hi := b_ltI ((by decide : -2147483648 ≤ (0 : Int) ∧ (0 : Int) ≤ 2147483647)) (b_ri (b_h0 hst))
  refine lv_if_gt hC.1 hC.2.1 hd ht (fun h => ?_) (fun h => ?_)
  · rw [if_pos (hi.mp h)] at k
    exact k E p e s m args below meth c H locs ad0 ad lsA hC hG hb ha0 hn hR hS hl hls (b_tl hst)
  · rw [if_neg (fun h' => h (hi.mpr h'))] at k
    exact k E p e s m args below meth c H locs ad0 ad lsA hC hG hb ha0 hn hR hS hl hls (b_tl hst)
theorem x_icmp_gt {x y : Int} {t : Nat} (off : Int) (hd : decode (bZ_M Z).2.1 pc = .ok (.if_icmp .gt off, 3)) (ht : (pc : Int) + off = (t : Int)) (hq : pc + 3 = q) (k : if y < x then b_X Z n u v t ls st w else b_X Z n u v q ls st w) : b_X Z n u v pc ls ((0, y) :: (0, x) :: st) w := by
  subst hq
  intro E p e s m args below meth c H locs ad0 ad lsA hC hG hb ha0 hn hR hS hl hls hst
  have hi := b_ltI (b_ri (b_h0 hst)) (b_ri (b_h1 hst))
  refine lv_icmp_gt hC.1 hC.2.1 hd ht (fun h => ?_) (fun h => ?_)
  · rw [if_pos (hi.mp h)] at k
    exact k E p e s m args below meth c H locs ad0 ad lsA hC hG hb ha0 hn hR hS hl hls ((fun h => b_tl (b_tl h)) hst)
  · rw [if_neg (fun h' => h (hi.mpr h'))] at k
    exact k E p e s m args below meth c H locs ad0 ad lsA hC hG hb ha0 hn hR hS hl hls ((fun h => b_tl (b_tl h)) hst)
theorem x_if_le {x : Int} {t : Nat} (off : Int) (hd : decode (bZ_M Z).2.1 pc = .ok (.ifCond .le off, 3)) (ht : (pc : Int) + off = (t : Int)) (hq : pc + 3 = q) (k : if x ≤ 0 then b_X Z n u v t ls st w else b_X Z n u v q ls st w) : b_X Z n u v pc ls ((0, x) :: st) w := by
  subst hq
  intro E p e s m args below meth c H locs ad0 ad lsA hC hG hb ha0 hn hR hS hl hls hst
  have hi := b_leI (b_ri (b_h0 hst)) ((by decide : -2147483648 ≤ (0 : Int) ∧ (0 : Int) ≤ 2147483647))
  refine lv_if_le hC.1 hC.2.1 hd ht (fun h => ?_) (fun h => ?_)
  · rw [if_pos (hi.mp h)] at k
    exact k E p e s m args below meth c H locs ad0 ad lsA hC hG hb ha0 hn hR hS hl hls (b_tl hst)
  · rw [if_neg (fun h' => h (hi.mpr h'))] at k
    exact k E p e s m args below meth c H locs ad0 ad lsA hC hG hb ha0 hn hR hS hl hls (b_tl hst)
theorem x_icmp_le {x y : Int} {t : Nat} (off : Int) (hd : decode (bZ_M Z).2.1 pc = .ok (.if_icmp .le off, 3)) (ht : (pc : Int) + off = (t : Int)) (hq : pc + 3 = q) (k : if x ≤ y then b_X Z n u v t ls st w else b_X Z n u v q ls st w) : b_X Z n u v pc ls ((0, y) :: (0, x) :: st) w := by
  subst hq
  intro E p e s m args below meth c H locs ad0 ad lsA hC hG hb ha0 hn hR hS hl hls hst
  have hi := b_leI (b_ri (b_h1 hst)) (b_ri (b_h0 hst))
  refine lv_icmp_le hC.1 hC.2.1 hd ht (fun h => ?_) (fun h => ?_)
  · rw [if_pos (hi.mp h)] at k
    exact k E p e s m args below meth c H locs ad0 ad lsA hC hG hb ha0 hn hR hS hl hls ((fun h => b_tl (b_tl h)) hst)
  · rw [if_neg (fun h' => h (hi.mpr h'))] at k
    exact k E p e s m args below meth c H locs ad0 ad lsA hC hG hb ha0 hn hR hS hl hls ((fun h => b_tl (b_tl h)) hst)
end BridgeOps
