section BridgeHeap
variable {Z : bZ} {n u v pc q : Nat} {ls st : List bV} {w : bW}
def b_up (w : bW) (o i x : Int) : bW := fun o' i' => if o' = o ∧ i' = i then x else w o' i'
theorem b_up_self (w : bW) (o i x : Int) : b_up w o i x o i = x := by simp [b_up]
theorem b_up_ne {w : bW} {o i x o' i' : Int} (h : o' ≠ o ∨ i' ≠ i) : b_up w o i x o' i' = w o' i' := by
  unfold b_up
  rw [if_neg]
  intro ⟨a, b⟩
  rcases h with h | h
  · exact h a
  · exact h b
/-- the object o is there, and is of this shape -/
def b_is (n : Nat) (o : Int) (g c N : Nat) : Prop := 0 ≤ o ∧ o.toNat < n ∧ b_sh o.toNat = (g, c, N)
theorem b_en_o {E : bE} {ad : Nat → Nat} {k c N : Nat} (w : bW) (h : b_sh k = (0, c, N)) : b_en E ad w k = .inr (c, (List.range N).map fun f => b_vl E ad (b_ft c f, w k f)) := by
  unfold b_en
  rw [h]
  rfl
theorem b_en_i {E : bE} {ad : Nat → Nat} {k t N : Nat} (w : bW) (h : b_sh k = (1, t, N)) : b_en E ad w k = .inl (bE_a E t, N, .inl fun j => Int32.ofInt (w k j)) := by
  unfold b_en
  rw [h]
  rfl
theorem b_en_l {E : bE} {ad : Nat → Nat} {k t N : Nat} (w : bW) (h : b_sh k = (2, t, N)) : b_en E ad w k = .inl (bE_a E t, N, .inr (.inl fun j => Int64.ofInt (w k j))) := by
  unfold b_en
  rw [h]
  rfl
theorem b_en_q {E : bE} {ad : Nat → Nat} {k t N : Nat} (w : bW) (h : b_sh k = (3, t, N)) : b_en E ad w k = .inl (bE_a E t, N, .inr (.inr (.inr (.inr fun j => if j < N then (if w k j < 0 then none else some (ad (w k j).toNat)) else none)))) := by
  unfold b_en
  rw [h]
  rfl
theorem b_wfo_o {n : Nat} {w : bW} {k c N : Nat} (h : b_sh k = (0, c, N)) : b_wfo n w k = ∀ f : Nat, f < N → b_okv n (b_ft c f, w k f) := by
  unfold b_wfo
  rw [h]
  rfl
theorem b_wfo_i {n : Nat} {w : bW} {k t N : Nat} (h : b_sh k = (1, t, N)) : b_wfo n w k = ∀ j : Nat, j < N → b_rng t (w k j) := by
  unfold b_wfo
  rw [h]
  rfl
theorem b_wfo_l {n : Nat} {w : bW} {k t N : Nat} (h : b_sh k = (2, t, N)) : b_wfo n w k = ∀ j : Nat, j < N → -9223372036854775808 ≤ w k j ∧ w k j ≤ 9223372036854775807 := by
  unfold b_wfo
  rw [h]
  rfl
theorem b_wfo_q {n : Nat} {w : bW} {k t N : Nat} (h : b_sh k = (3, t, N)) : b_wfo n w k = ∀ j : Nat, j < N → w k j < n := by
  unfold b_wfo
  rw [h]
  rfl
theorem b_ws_at {E : bE} {ad : Nat → Nat} {w : bW} {n k : Nat} (h : k < n) : (b_ws E ad w n)[k]? = some (ad k, b_en E ad w k) := by
  unfold b_ws
  rw [List.getElem?_map, List.getElem?_range h]
  rfl
theorem b_ws_len {E : bE} {ad : Nat → Nat} {w : bW} {n : Nat} : (b_ws E ad w n).length = n := by simp [b_ws]
theorem b_en_ne {E : bE} {ad : Nat → Nat} {w : bW} {k : Nat} {o f x : Int} (h : (k : Int) ≠ o) : b_en E ad (b_up w o f x) k = b_en E ad w k := by
  have e : ∀ j : Int, b_up w o f x k j = w k j := fun j => b_up_ne (Or.inl h)
  unfold b_en
  simp only [e]
theorem b_ws_set {E : bE} {ad : Nat → Nat} {w : bW} {n k : Nat} {f x : Int} (h : k < n) : (b_ws E ad w n).set k (ad k, b_en E ad (b_up w k f x) k) = b_ws E ad (b_up w k f x) n := by
  apply List.ext_getElem?
  intro i
  by_cases hi : i < n
  · rw [b_ws_at hi]
    by_cases hk : k = i
    · subst hk
      rw [List.getElem?_set_self (by rw [b_ws_len]; exact hi)]
    · rw [List.getElem?_set_ne hk, b_ws_at hi, b_en_ne (by omega)]
  · rw [List.getElem?_eq_none (by rw [List.length_set, b_ws_len]; omega), List.getElem?_eq_none (by rw [b_ws_len]; omega)]
theorem b_wfo_ne {n : Nat} {w : bW} {k : Nat} {o f x : Int} (h : (k : Int) ≠ o) : b_wfo n (b_up w o f x) k ↔ b_wfo n w k := by
  have e : ∀ j : Int, b_up w o f x k j = w k j := fun j => b_up_ne (Or.inl h)
  unfold b_wfo
  simp only [e]
theorem b_wf_up {n : Nat} {w : bW} {k : Nat} {f x : Int} (hw : b_wf n w) (h : b_wfo n (b_up w k f x) k) : b_wf n (b_up w k f x) := by
  intro i hi
  by_cases hk : (i : Int) = k
  · have : i = k := by omega
    subst this
    exact h
  · exact (b_wfo_ne hk).mpr (hw i hi)
theorem b_up_fld {w : bW} {k f j : Nat} {x : Int} : b_up w k f x k j = if j = f then x else w k j := by
  unfold b_up
  by_cases h : j = f
  · subst h; simp
  · rw [if_neg (by intro ⟨_, b⟩; exact h (by omega)), if_neg h]
theorem b_vl2 {E : bE} {ad : Nat → Nat} {o : Int} (h : 0 ≤ o) : b_vl E ad (2, o) = .ref (ad o.toNat) := by
  have : b_vl E ad (2, o) = if o < 0 then Value.null else Value.ref (ad o.toNat) := rfl
  rw [this, if_neg (by omega)]
theorem b_vl2n {E : bE} {ad : Nat → Nat} (k : Nat) : b_vl E ad (2, (k : Int)) = .ref (ad k) := by
  rw [b_vl2 (by omega), Int.toNat_natCast]
theorem x_get (idx f : Nat) {c N t : Nat} {C : String} {T : u_T} {o : Int} (hd : decode (bZ_M Z).2.1 pc = .ok (.getfield idx, 3)) (ho : b_is n o 0 c N)
    (hc : vwCl[c]? = some (C, T, N)) (hin : ∀ x ∈ u_ws C T N, x ∈ lw_all) (hlk : Cond.fieldLink (bZ_M Z).1.cls idx C (T f).2.1 (T f).2.2.1 ∈ lw_all) (hT : (T f).1 = C) (hf : Nat.blt f N = true) (ht : b_ft c f = t)
    (hq : pc + 3 = q) (k : b_X Z n u v q ls ((t, w o f) :: st) w) : b_X Z n u v pc ls ((2, o) :: st) w := by
  subst hq; subst ht
  have hf : f < N := Nat.le_of_ble_eq_true hf
  obtain ⟨h0, h1, h2⟩ := ho
  intro E p e s m args below meth c' H locs ad0 ad lsA hC hG hb ha0 hn hR hS hl hls hst
  have hen : b_en E ad w o.toNat = .inr (c, (List.range N).map fun f => b_vl E ad (b_ft c f, w o.toNat f)) := b_en_o w h2
  have hat := b_ws_at (E := E) (ad := ad) (w := w) h1
  rw [hen] at hat
  have hoo : ((o.toNat : Nat) : Int) = o := Int.toNat_of_nonneg h0
  rw [hoo] at hat
  have hok : b_okv n (b_ft c f, w o f) := by
    have := hR.2.2.1 o.toNat h1
    rw [b_wfo_o h2] at this
    have := this f hf
    rw [hoo] at this
    exact this
  have hk := k E p e s m args below meth c' H locs ad0 ad lsA hC hG hb ha0 hn hR hS hl hls (b_all0 hok (b_tl hst))
  have ho' : b_vl E ad (2, o) = .ref (ad o.toNat) := b_vl2 h0
  rw [List.map_cons, ho']
  exact va_get hC.1 hC.2.1 hC.2.2.2.2.2.1 hin hC.2.2.2.2.1 hG.1 hR.1 o.toNat hat hc f hf (hC.2.2.2.2.2.1 _ hlk) (fun x hx => by rw [hT] at hx; exact hx) (by rw [List.getElem?_map, List.getElem?_range hf]; rfl) hd hk
/-- a value of a field's type -/
theorem b_fit (E : bE) (ad : Nat → Nat) {ty : FieldType} {t : Nat} {x : Int} (h : (ty = .int ∧ t = 0) ∨ (ty = .boolean ∧ t = 0 ∧ (x = 0 ∨ x = 1)) ∨ (ty = .long ∧ t = 1) ∨ (t = 2 ∧ ((∃ C, ty = .object C) ∨ ∃ a, ty = .array a))) : narrow ty (b_vl E ad (t, x)) = b_vl E ad (t, x) ∧ fits ty (b_vl E ad (t, x)) = true := by
  rcases h with ⟨rfl, rfl⟩ | ⟨rfl, rfl, h⟩ | ⟨rfl, rfl⟩ | ⟨rfl, h⟩
  · exact ⟨rfl, rfl⟩
  · rcases h with rfl | rfl
    · exact ⟨rfl, rfl⟩
    · exact ⟨rfl, rfl⟩
  · exact ⟨rfl, rfl⟩
  · have hv : b_vl E ad (2, x) = .null ∨ ∃ a, b_vl E ad (2, x) = .ref a := b_ref E ad (Nat.le_refl 2)
    rcases h with ⟨C, rfl⟩ | ⟨a, rfl⟩ <;> rcases hv with e | ⟨q, e⟩ <;> rw [e] <;> exact ⟨rfl, rfl⟩
theorem b_set_fld {E : bE} {ad : Nat → Nat} {w : bW} {k c N f : Nat} {x : Int} (hs : b_sh k = (0, c, N)) : ((List.range N).map fun f => b_vl E ad (b_ft c f, w k f)).set f (b_vl E ad (b_ft c f, x)) = (List.range N).map fun j => b_vl E ad (b_ft c j, b_up w k f x k j) := by
  apply List.ext_getElem?
  intro i
  by_cases hi : i < N
  · by_cases hf : f = i
    · subst hf
      rw [List.getElem?_set_self (by simpa using hi), List.getElem?_map, List.getElem?_range hi]
      simp [b_up_fld]
    · rw [List.getElem?_set_ne hf, List.getElem?_map, List.getElem?_map, List.getElem?_range hi]
      have : ¬ i = f := fun e => hf e.symm
      simp [b_up_fld, this]
  · rw [List.getElem?_eq_none (by simpa using hi), List.getElem?_eq_none (by simpa using hi)]
theorem b_wfo_fld {n : Nat} {w : bW} {k c N f : Nat} {x : Int} (hs : b_sh k = (0, c, N)) (hw : b_wfo n w k) (hx : b_okv n (b_ft c f, x)) : b_wfo n (b_up w k f x) k := by
  rw [b_wfo_o hs] at hw ⊢
  intro j hj
  rw [b_up_fld]
  split
  · rename_i e; subst e; exact hx
  · exact hw j hj
theorem b_G_of_S {E : bE} {s : State} {H H1 : Heap} {locs : List Loc} (hG : b_G E s H) (hb : bE_b E ≤ s.heap.size) (hS0 : va_S (bA E) s.heap H locs) {locs1 : List Loc} (hS : va_S (bA E) s.heap H1 locs1) : b_G E s H1 :=
  hG.kept (fun a ha => (hS.2.1 a (by omega) (by unfold bA; omega)).trans (hS0.2.1 a (by omega) (by unfold bA; omega)).symm) (Nat.le_trans hb hS.1)
theorem b_fin_up {n : Nat} {w : bW} {o f x : Int} (h : b_fin n w) (hn : b_nf o f ∨ n < b_thr o) : b_fin n (b_up w o f x) := by
  refine b_fin_set h (fun p hp ht => b_up_ne ?_)
  by_cases e1 : p.1 = o
  · by_cases e2 : p.2.1 = f
    · rcases hn with hn | hn
      · exact absurd ⟨e1, e2⟩ (hn p hp)
      · rw [e1] at ht; omega
    · exact Or.inr e2
  · exact Or.inl e1
theorem x_put (idx f : Nat) {c N t : Nat} {C : String} {T : u_T} {ty0 : Nat → FieldType} {o x : Int} (hd : decode (bZ_M Z).2.1 pc = .ok (.putfield idx, 3)) (ho : b_is n o 0 c N)
    (hc : vwCl[c]? = some (C, T, N)) (hin : ∀ x ∈ u_ws C T N, x ∈ lw_all) (hty : ∀ k, k < N → parseFieldDescriptor (T k).2.2.1 = some (ty0 k)) (hnm : ∀ a, a < N → ∀ b, b < N → a ≠ b → (T a).2.1 ≠ (T b).2.1)
    (hlk : Cond.fieldLink (bZ_M Z).1.cls idx C (T f).2.1 (T f).2.2.1 ∈ lw_all) (hT : (T f).1 = C) (hf : Nat.blt f N = true) (ht : b_ft c f = t) (hfin : (T f).2.2.2 = false ∨ ((T f).2.2.2 = true ∧ (bZ_M Z).1.name = "<init>" ∧ (T f).1 = (bZ_M Z).1.cls ∧ (b_nf o f ∨ n < b_thr o)))
    (hfit : (ty0 f = .int ∧ t = 0) ∨ (ty0 f = .boolean ∧ t = 0 ∧ (x = 0 ∨ x = 1)) ∨ (ty0 f = .long ∧ t = 1) ∨ (t = 2 ∧ ((∃ C, ty0 f = .object C) ∨ ∃ a, ty0 f = .array a)))
    (hq : pc + 3 = q) (k : b_X Z n u v q ls st (b_up w o f x)) : b_X Z n u v pc ls ((t, x) :: (2, o) :: st) w := by
  subst hq; subst ht
  have hf : f < N := Nat.le_of_ble_eq_true hf
  obtain ⟨h0, h1, h2⟩ := ho
  obtain ⟨kk, rfl⟩ : ∃ kk : Nat, o = kk := ⟨o.toNat, (Int.toNat_of_nonneg h0).symm⟩
  rw [Int.toNat_natCast] at h1 h2
  intro E p e s m args below meth c' H locs ad0 ad lsA hC hG hb ha0 hn hR hS hl hls hst
  have hen : ∀ w : bW, b_en E ad w kk = .inr (c, (List.range N).map fun f => b_vl E ad (b_ft c f, w kk f)) := fun w => b_en_o w h2
  have hat := b_ws_at (E := E) (ad := ad) (w := w) h1
  rw [hen] at hat
  have ho' : b_vl E ad (2, (kk : Int)) = .ref (ad kk) := b_vl2n kk
  obtain ⟨g1, g2⟩ := b_fit E ad hfit
  have key : ∀ (H1 : Heap) (locs1 : List Loc), va_P (bE_D E) vwCl ((b_ws E ad w n).set kk (ad kk, .inr (c, ((List.range N).map fun f => b_vl E ad (b_ft c f, w kk f)).set f (b_vl E ad (b_ft c f, x))))) H1 → va_D (bA E) ((b_ws E ad w n).set kk (ad kk, .inr (c, ((List.range N).map fun f => b_vl E ad (b_ft c f, w kk f)).set f (b_vl E ad (b_ft c f, x))))) → va_S (bA E) s.heap H1 locs1 → W p (bE_l E) e (b_rm Z.1 Z.2.1 Z.2.2.1) s m args below meth c' H1 locs1 u v (vx_MQ below (b_Qc E ad0 Z.2.2.2.2.1 (bZ_M Z) Z.2.2.2.2.2.1) (b_XC E ad0 Z.2.2.2.2.1 Z.2.2.2.2.2.2) args s Z.2.1 Z.2.2.1 (bA E)) (F0 m (pc + 3) lsA (st.map (b_vl E ad))) := by
    intro H1 locs1 p1 p2 p3
    have e1 : (b_ws E ad w n).set kk (ad kk, .inr (c, ((List.range N).map fun f => b_vl E ad (b_ft c f, w kk f)).set f (b_vl E ad (b_ft c f, x)))) = b_ws E ad (b_up w kk f x) n := by
      rw [← b_ws_set h1, hen, b_set_fld h2]
    rw [e1] at p1 p2
    exact k E p e s m args below meth c' H1 locs1 ad0 ad lsA hC (b_G_of_S hG hb hS p3) hb ha0 hn ⟨p1, p2, b_wf_up hR.2.2.1 (b_wfo_fld h2 (hR.2.2.1 kk h1) (b_h0 hst)), hR.2.2.2.1, b_sc_of hR.2.2.2.2.1 (fun o x ho => b_up_ne (Or.inl (by omega))), b_fin_up hR.2.2.2.2.2 (by rcases hfin with hf' | hf'; exact Or.inl (b_nf_fld h2 hc hf'); exact hf'.2.2.2)⟩ p3 hl hls (b_tl (b_tl hst))
  rw [List.map_cons, List.map_cons, ho']
  rcases hfin with hfin | ⟨hf1, hf2, hf3, -⟩
  · exact va_put hC.1 hC.2.1 hC.2.2.2.2.2.1 hin ty0 hty hnm hC.2.2.2.2.1 hG.1 hR.1 hR.2.1 hS kk hat hc f hf (hC.2.2.2.2.2.1 _ hlk) (fun x hx => by rw [hT] at hx; exact hx) hfin (hty f hf) g1 g2 (by simpa using hf) hd key
  · exact va_putF hC.1 hC.2.1 hC.2.2.2.2.2.1 hin ty0 hty hnm hC.2.2.2.2.1 hG.1 hR.1 hR.2.1 hS kk hat hc f hf (hC.2.2.2.2.2.1 _ hlk) (fun x hx => by rw [hT] at hx; exact hx) hf1 (by rw [hC.2.2.2.2.2.2.2.2]; exact hf2) hf3 (hty f hf) g1 g2 (by simpa using hf) hd key
end BridgeHeap
