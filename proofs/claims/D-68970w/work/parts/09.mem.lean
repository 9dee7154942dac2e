section BridgeMem
variable {Z : bZ} {n u v pc q : Nat} {ls st : List bV} {w : bW}
theorem b_beq1 {t : Nat} (h : t ≠ 1) : Nat.beq t 1 = false := by
  cases hh : Nat.beq t 1 with
  | false => rfl
  | true => exact absurd (Nat.eq_of_beq_eq_true hh) h
theorem b_set1_mem {E : bE} {ad : Nat → Nat} {ls : List bV} {i : Nat} {x : bV} {q : Nat × Value} (h : q ∈ b_lvs E ad 0 (b_set1 ls i x)) : q ∈ (i, b_vl E ad x) :: (b_lvs E ad 0 ls).filter (fun q => !(q.1 == i) && !(q.1 + 1 == i && q.2.category == 2)) := by
  obtain ⟨j, y, h1, h2, h3⟩ := (b_lvs_mem _ 0).mp h
  unfold b_set1 at h1
  by_cases hj : i = j
  · subst hj
    rw [List.getElem?_set] at h1
    split at h1
    · split at h1
      · cases h1
        rw [h3]
        simp
      · cases h1
    · exact absurd rfl ‹_›
  · rw [List.getElem?_set_ne hj] at h1
    obtain ⟨g1, g2⟩ := b_cut_at h1 h2
    refine List.mem_cons_of_mem _ (List.mem_filter.mpr ⟨(b_lvs_mem _ 0).mpr ⟨j, y, g1, h2, h3⟩, ?_⟩)
    rw [h3]
    have e1 : (0 + j == i) = false := by simpa using fun e => hj e.symm
    rw [show (0 + j, b_vl E ad y).1 = 0 + j from rfl, e1]
    by_cases e2 : j + 1 = i
    · have := b_cat1 E ad (t := y) (b_beq1 (g2 e2))
      simp [this]
    · simp [e2]
theorem b_set2_mem {E : bE} {ad : Nat → Nat} {ls : List bV} {i : Nat} {x : bV} {q : Nat × Value} (h : q ∈ b_lvs E ad 0 (b_set2 ls i x)) : q ∈ (i, b_vl E ad x) :: (b_lvs E ad 0 ls).filter (fun q => !(q.1 == i) && (!(q.1 == i + 1) && !(q.1 + 1 == i && q.2.category == 2))) := by
  obtain ⟨j, y, h1, h2, h3⟩ := (b_lvs_mem _ 0).mp h
  unfold b_set2 at h1
  have hj1 : i + 1 ≠ j := by
    intro e
    subst e
    rw [List.getElem?_set] at h1
    split at h1
    · split at h1
      · cases h1
        exact h2 rfl
      · cases h1
    · exact absurd rfl ‹_›
  rw [List.getElem?_set_ne hj1] at h1
  by_cases hj : i = j
  · subst hj
    rw [List.getElem?_set] at h1
    split at h1
    · split at h1
      · cases h1
        rw [h3]
        simp
      · cases h1
    · exact absurd rfl ‹_›
  · rw [List.getElem?_set_ne hj] at h1
    obtain ⟨g1, g2⟩ := b_cut_at h1 h2
    refine List.mem_cons_of_mem _ (List.mem_filter.mpr ⟨(b_lvs_mem _ 0).mpr ⟨j, y, g1, h2, h3⟩, ?_⟩)
    rw [h3]
    have e1 : (0 + j == i) = false := by simpa using fun e => hj e.symm
    have e4 : (0 + j == i + 1) = false := by simpa using fun e => hj1 e.symm
    rw [show (0 + j, b_vl E ad y).1 = 0 + j from rfl, e1, e4]
    by_cases e2 : j + 1 = i
    · have := b_cat1 E ad (t := y) (b_beq1 (g2 e2))
      simp [this]
    · simp [e2]
theorem b_ok9 {n : Nat} : b_okv n (9, 0) := ⟨fun q => (by cases q), fun q => (by cases q), fun q => (by cases q)⟩
theorem b_okset {n : Nat} {ls : List bV} {i : Nat} {x : bV} (h : ∀ y ∈ ls, b_okv n y) (hx : b_okv n x) : ∀ y ∈ ls.set i x, b_okv n y := by
  intro y hy
  rcases List.mem_or_eq_of_mem_set hy with e | e
  · exact h y e
  · rw [e]; exact hx
theorem b_okcut {n : Nat} {ls : List bV} {i : Nat} (h : ∀ y ∈ ls, b_okv n y) : ∀ y ∈ b_cut ls i, b_okv n y := by
  unfold b_cut
  split
  · exact h
  · split
    · exact b_okset h b_ok9
    · exact h
theorem b_okset1 {n : Nat} {ls : List bV} {i : Nat} {x : bV} (h : ∀ y ∈ ls, b_okv n y) (hx : b_okv n x) : ∀ y ∈ b_set1 ls i x, b_okv n y := b_okset (b_okcut h) hx
theorem b_okset2 {n : Nat} {ls : List bV} {i : Nat} {x : bV} (h : ∀ y ∈ ls, b_okv n y) (hx : b_okv n x) : ∀ y ∈ b_set2 ls i x, b_okv n y := b_okset (b_okset (b_okcut h) hx) b_ok9
theorem x_istore (i : Nat) {x : Int} {ls' : List bV} (hd : decode (bZ_M Z).2.1 pc = .ok (.istore i, 2)) (hi : Nat.blt i (bZ_M Z).2.2.1 = true) (hl' : b_set1 ls i (0, x) = ls') (hq : pc + 2 = q) (k : b_X Z n u v q ls' st w) : b_X Z n u v pc ls ((0, x) :: st) w := by
  subst hq; subst hl'
  intro E p e s m args below meth c H locs ad0 ad lsA hC hG hb ha0 hn hR hS hl hls hst
  exact lv_istore hC.1 hC.2.1 hd hl (Nat.le_of_ble_eq_true hi) rfl (fun ls2 h2 => k E p e s m args below meth c H locs ad0 ad ls2 hC hG hb ha0 hn hR hS (b_has_mono h2 (fun q hq => b_set1_mem hq)) (b_okset1 hls (b_h0 hst)) (b_tl hst))
theorem x_istore_n (i : Fin 4) {j : Nat} {x : Int} {ls' : List bV} (hd : decode (bZ_M Z).2.1 pc = .ok (.istore_n i, 1)) (hj : (i : Nat) = j) (hi : Nat.blt j (bZ_M Z).2.2.1 = true) (hl' : b_set1 ls j (0, x) = ls') (hq : pc + 1 = q) (k : b_X Z n u v q ls' st w) : b_X Z n u v pc ls ((0, x) :: st) w := by
  subst hq; subst hl'
  intro E p e s m args below meth c H locs ad0 ad lsA hC hG hb ha0 hn hR hS hl hls hst
  exact lv_istore_n hC.1 hC.2.1 hd hj hl (Nat.le_of_ble_eq_true hi) rfl (fun ls2 h2 => k E p e s m args below meth c H locs ad0 ad ls2 hC hG hb ha0 hn hR hS (b_has_mono h2 (fun q hq => b_set1_mem hq)) (b_okset1 hls (b_h0 hst)) (b_tl hst))
theorem x_lstore (i : Nat) {x : Int} {ls' : List bV} (hd : decode (bZ_M Z).2.1 pc = .ok (.lstore i, 2)) (hi : Nat.blt (i + 1) (bZ_M Z).2.2.1 = true) (hl' : b_set2 ls i (1, x) = ls') (hq : pc + 2 = q) (k : b_X Z n u v q ls' st w) : b_X Z n u v pc ls ((1, x) :: st) w := by
  subst hq; subst hl'
  intro E p e s m args below meth c H locs ad0 ad lsA hC hG hb ha0 hn hR hS hl hls hst
  exact lv_lstore hC.1 hC.2.1 hd hl (Nat.le_of_ble_eq_true hi) rfl (fun ls2 h2 => k E p e s m args below meth c H locs ad0 ad ls2 hC hG hb ha0 hn hR hS (b_has_mono h2 (fun q hq => b_set2_mem hq)) (b_okset2 hls (b_h0 hst)) (b_tl hst))
theorem x_lstore_n (i : Fin 4) {j : Nat} {x : Int} {ls' : List bV} (hd : decode (bZ_M Z).2.1 pc = .ok (.lstore_n i, 1)) (hj : (i : Nat) = j) (hi : Nat.blt (j + 1) (bZ_M Z).2.2.1 = true) (hl' : b_set2 ls j (1, x) = ls') (hq : pc + 1 = q) (k : b_X Z n u v q ls' st w) : b_X Z n u v pc ls ((1, x) :: st) w := by
  subst hq; subst hl'
  intro E p e s m args below meth c H locs ad0 ad lsA hC hG hb ha0 hn hR hS hl hls hst
  exact lv_lstore_n hC.1 hC.2.1 hd hj hl (Nat.le_of_ble_eq_true hi) rfl (fun ls2 h2 => k E p e s m args below meth c H locs ad0 ad ls2 hC hG hb ha0 hn hR hS (b_has_mono h2 (fun q hq => b_set2_mem hq)) (b_okset2 hls (b_h0 hst)) (b_tl hst))
theorem x_astore (i : Nat) {t : bV} {ls' : List bV} (hd : decode (bZ_M Z).2.1 pc = .ok (.astore i, 2)) (h2 : Nat.ble 2 t.1 = true) (hi : Nat.blt i (bZ_M Z).2.2.1 = true) (hl' : b_set1 ls i t = ls') (hq : pc + 2 = q) (k : b_X Z n u v q ls' st w) : b_X Z n u v pc ls (t :: st) w := by
  subst hq; subst hl'
  intro E p e s m args below meth c H locs ad0 ad lsA hC hG hb ha0 hn hR hS hl hls hst
  have hm : ∀ q ∈ b_lvs E ad 0 (b_set1 ls i t), q ∈ (i, b_vl E ad t) :: (b_lvs E ad 0 ls).filter (fun q => !(q.1 == i) && !(q.1 + 1 == i && q.2.category == 2)) := fun q hq => b_set1_mem hq
  rw [List.map_cons]
  rcases b_ref E ad (Nat.le_of_ble_eq_true h2) with h | ⟨a, h⟩
  · rw [h] at hm ⊢
    exact lv_astoreN hC.1 hC.2.1 hd hl (Nat.le_of_ble_eq_true hi) rfl (fun ls2 h2 => k E p e s m args below meth c H locs ad0 ad ls2 hC hG hb ha0 hn hR hS (b_has_mono h2 hm) (b_okset1 hls (b_h0 hst)) (b_tl hst))
  · rw [h] at hm ⊢
    exact lv_astore hC.1 hC.2.1 hd hl (Nat.le_of_ble_eq_true hi) rfl (fun ls2 h2 => k E p e s m args below meth c H locs ad0 ad ls2 hC hG hb ha0 hn hR hS (b_has_mono h2 hm) (b_okset1 hls (b_h0 hst)) (b_tl hst))
theorem x_astore_n (i : Fin 4) {j : Nat} {t : bV} {ls' : List bV} (hd : decode (bZ_M Z).2.1 pc = .ok (.astore_n i, 1)) (hj : (i : Nat) = j) (h2 : Nat.ble 2 t.1 = true) (hi : Nat.blt j (bZ_M Z).2.2.1 = true) (hl' : b_set1 ls j t = ls') (hq : pc + 1 = q) (k : b_X Z n u v q ls' st w) : b_X Z n u v pc ls (t :: st) w := by
  subst hq; subst hl'
  intro E p e s m args below meth c H locs ad0 ad lsA hC hG hb ha0 hn hR hS hl hls hst
  have hm : ∀ q ∈ b_lvs E ad 0 (b_set1 ls j t), q ∈ (j, b_vl E ad t) :: (b_lvs E ad 0 ls).filter (fun q => !(q.1 == j) && !(q.1 + 1 == j && q.2.category == 2)) := fun q hq => b_set1_mem hq
  rw [List.map_cons]
  rcases b_ref E ad (Nat.le_of_ble_eq_true h2) with h | ⟨a, h⟩
  · rw [h] at hm ⊢
    exact lv_astore_nN hC.1 hC.2.1 hd hj hl (Nat.le_of_ble_eq_true hi) rfl (fun ls2 h2 => k E p e s m args below meth c H locs ad0 ad ls2 hC hG hb ha0 hn hR hS (b_has_mono h2 hm) (b_okset1 hls (b_h0 hst)) (b_tl hst))
  · rw [h] at hm ⊢
    exact lv_astore_n hC.1 hC.2.1 hd hj hl (Nat.le_of_ble_eq_true hi) rfl (fun ls2 h2 => k E p e s m args below meth c H locs ad0 ad ls2 hC hG hb ha0 hn hR hS (b_has_mono h2 hm) (b_okset1 hls (b_h0 hst)) (b_tl hst))
theorem x_iinc (i : Nat) (z : Int) {x : Int} {ls' : List bV} (hd : decode (bZ_M Z).2.1 pc = .ok (.iinc i z, 3)) (hv : ls[i]? = some (0, x)) (hi : Nat.blt i (bZ_M Z).2.2.1 = true) (hl' : b_set1 ls i (0, b_i (x + z)) = ls') (hq : pc + 3 = q) (k : b_X Z n u v q ls' st w) : b_X Z n u v pc ls st w := by
  subst hq; subst hl'
  intro E p e s m args below meth c H locs ad0 ad lsA hC hG hb ha0 hn hR hS hl hls hst
  obtain ⟨kk, hk⟩ := List.getElem?_of_mem ((b_lvs_mem (E := E) (ad := ad) (q := (i, b_vl E ad (0, x))) ls 0).mpr ⟨i, (0, x), hv, by simp, by simp⟩)
  exact lv_iinc (v := Int32.ofInt (b_i (x + z))) hC.1 hC.2.1 hd hl hk (by rw [b_ofi, Int32.ofInt_add]) (Nat.le_of_ble_eq_true hi) rfl (fun ls2 h2 => k E p e s m args below meth c H locs ad0 ad ls2 hC hG hb ha0 hn hR hS (b_has_mono h2 (fun q hq => b_set1_mem hq)) (b_okset1 hls (b_oki (b_i_r _))) hst)
theorem x_ldc (i : Nat) {x : Int} (hd : decode (bZ_M Z).2.1 pc = .ok (.ldc i, 2)) {y : Int32} (hc : Cond.constant (bZ_M Z).1.cls i y ∈ lw_all) (hy : y = Int32.ofInt x) (hr : -2147483648 ≤ x ∧ x ≤ 2147483647) (hq : pc + 2 = q) (k : b_X Z n u v q ls ((0, x) :: st) w) : b_X Z n u v pc ls st w := by
  subst hq; subst hy
  exact b_stk (b_all0 (b_oki hr)) (fun E p e R s m args below meth c H locs Q ad lsA hx hb hown hts hl hst k => lv_ldc hx hb hown (hts _ hc) hd k) k
theorem x_ldcw (i : Nat) {x : Int} (hd : decode (bZ_M Z).2.1 pc = .ok (.ldc_w i, 3)) {y : Int32} (hc : Cond.constant (bZ_M Z).1.cls i y ∈ lw_all) (hy : y = Int32.ofInt x) (hr : -2147483648 ≤ x ∧ x ≤ 2147483647) (hq : pc + 3 = q) (k : b_X Z n u v q ls ((0, x) :: st) w) : b_X Z n u v pc ls st w := by
  subst hq; subst hy
  refine b_stk (b_all0 (b_oki hr)) (fun E p e R s m args below meth c H locs Q ad lsA hx hb hown hts hl hst k => ?_) k
  intro T hT X
  obtain ⟨t, a, b⟩ := k T hT X
  exact ⟨t, va_ldcwI X hx hown (hts _ hc) rfl (by rw [hb]; exact hd) t a, b⟩
theorem x_ldc2 (i : Nat) {x : Int} (hd : decode (bZ_M Z).2.1 pc = .ok (.ldc2_w i, 3)) {y : Int64} (hc : Cond.constantLong (bZ_M Z).1.cls i y ∈ lw_all) (hy : y = Int64.ofInt x) (hr : -9223372036854775808 ≤ x ∧ x ≤ 9223372036854775807) (hq : pc + 3 = q) (k : b_X Z n u v q ls ((1, x) :: st) w) : b_X Z n u v pc ls st w := by
  subst hq; subst hy
  exact b_stk (b_all0 (b_okl hr)) (fun E p e R s m args below meth c H locs Q ad lsA hx hb hown hts hl hst k => lv_ldc2 hx hb hown (hts _ hc) hd k) k
end BridgeMem
