section BridgeArr
variable {Z : bZ} {n u v pc q : Nat} {ls st : List bV} {w : bW}
theorem b_cl {i : Int} (h : -2147483648 ≤ i ∧ i ≤ 2147483647) : (Int32.ofInt i).toNatClampNeg = i.toNat := by
  show (Int32.ofInt i).toInt.toNat = _
  rw [b_toI h]
theorem b_in {i : Int} {N : Nat} (h : -2147483648 ≤ i ∧ i ≤ 2147483647) (hi : 0 ≤ i ∧ i < N) : vp_in (Int32.ofInt i) N := vp_in_iff.mpr (by rw [b_toI h]; exact hi)
theorem b_setA {E : bE} {ad : Nat → Nat} {w : bW} {n k : Nat} {f x : Int} {e : va_E} (h : k < n) (he : b_en E ad (b_up w k f x) k = e) : (b_ws E ad w n).set k (ad k, e) = b_ws E ad (b_up w k f x) n := by
  rw [← he, b_ws_set h]
theorem b_updI {w : bW} {k i : Nat} {x : Int} : upd (fun j => Int32.ofInt (w k j)) i (Int32.ofInt x) = fun j : Nat => Int32.ofInt (b_up w k i x k j) := by
  funext j
  rw [b_up_fld]
  unfold upd
  split <;> rfl
theorem b_updL {w : bW} {k i : Nat} {x : Int} : vp_updL (fun j => Int64.ofInt (w k j)) i (Int64.ofInt x) = fun j : Nat => Int64.ofInt (b_up w k i x k j) := by
  funext j
  rw [b_up_fld]
  unfold vp_updL
  split <;> rfl
theorem b_z2 (x : Int) (h : -2147483648 ≤ x ∧ x ≤ 2147483647) : vp_nar .boolean (Int32.ofInt x) = Int32.ofInt (x % 2) := by
  show Int32.ofInt x &&& 1 = _
  have h1 : Int32.ofInt x &&& 1 = nI ((Int32.ofInt x).toBitVec.toNat % 2 ^ 1) := pk_and _ 1 rfl
  rw [h1]
  apply Int32.toInt_inj.mp
  have e2 : ((Int32.ofInt x).toBitVec.toNat : Int) % 2 = x % 2 := by
    have : (Int32.ofInt x).toBitVec = BitVec.ofInt 32 x := rfl
    rw [this, BitVec.toNat_ofInt]
    omega
  rw [nI_toInt (by omega), b_toI (by omega)]
  omega
theorem b_nb (x : Int) : vp_nar .byte (Int32.ofInt x) = Int32.ofInt (b_b8 x) := (vp_nar_byte _).trans (b_i2b x)
theorem b_ns (x : Int) : vp_nar .short (Int32.ofInt x) = Int32.ofInt (b_s16 x) := (vp_nar_short _).trans (b_i2s x)
theorem b_wfo_a {n : Nat} {w : bW} {k t N i : Nat} {x : Int} (hs : b_sh k = (1, t, N)) (hw : b_wfo n w k) (hx : b_rng t x) : b_wfo n (b_up w k i x) k := by
  rw [b_wfo_i hs] at hw ⊢
  intro j hj
  rw [b_up_fld]
  split
  · exact hx
  · exact hw j hj
theorem x_iald {o i : Int} {N : Nat} (hd : decode (bZ_M Z).2.1 pc = .ok (.iaload, 1)) (ho : b_is n o 1 0 N) (hi : 0 ≤ i ∧ i < N) (hq : pc + 1 = q) (k : b_X Z n u v q ls ((0, w o i) :: st) w) : b_X Z n u v pc ls ((0, i) :: (2, o) :: st) w := by
  subst hq
  obtain ⟨h0, h1, h2⟩ := ho
  intro E p e s m args below meth c' H locs ad0 ad lsA hC hG hb ha0 hn hR hS hl hls hst
  have hr := b_ri (b_h0 hst)
  have hoo : ((o.toNat : Nat) : Int) = o := Int.toNat_of_nonneg h0
  have hii : ((i.toNat : Nat) : Int) = i := Int.toNat_of_nonneg hi.1
  have hat := b_ws_at (E := E) (ad := ad) (w := w) h1
  rw [b_en_i w h2] at hat
  have hk := k E p e s m args below meth c' H locs ad0 ad lsA hC hG hb ha0 hn hR hS hl hls (b_all0 (b_oki (by have := hR.2.2.1 o.toNat h1; rw [b_wfo_i h2] at this; have := this i.toNat (by omega); rw [hoo, hii] at this; exact b_rng_i this)) (b_tl (b_tl hst)))
  rw [List.map_cons, List.map_cons, b_vl2 h0]
  refine va_iald hC.1 hC.2.1 hG.1 hR.1 o.toNat 0 hat rfl (b_in hr hi) hd ?_
  rw [b_cl hr, hoo, hii]
  exact hk
theorem x_bald {o i : Int} {N : Nat} (hd : decode (bZ_M Z).2.1 pc = .ok (.baload, 1)) (ho : b_is n o 1 1 N) (hi : 0 ≤ i ∧ i < N) (hq : pc + 1 = q) (k : b_X Z n u v q ls ((0, w o i) :: st) w) : b_X Z n u v pc ls ((0, i) :: (2, o) :: st) w := by
  subst hq
  obtain ⟨h0, h1, h2⟩ := ho
  intro E p e s m args below meth c' H locs ad0 ad lsA hC hG hb ha0 hn hR hS hl hls hst
  have hr := b_ri (b_h0 hst)
  have hoo : ((o.toNat : Nat) : Int) = o := Int.toNat_of_nonneg h0
  have hii : ((i.toNat : Nat) : Int) = i := Int.toNat_of_nonneg hi.1
  have hat := b_ws_at (E := E) (ad := ad) (w := w) h1
  rw [b_en_i w h2] at hat
  have hk := k E p e s m args below meth c' H locs ad0 ad lsA hC hG hb ha0 hn hR hS hl hls (b_all0 (b_oki (by have := hR.2.2.1 o.toNat h1; rw [b_wfo_i h2] at this; have := this i.toNat (by omega); rw [hoo, hii] at this; exact b_rng_i this)) (b_tl (b_tl hst)))
  rw [List.map_cons, List.map_cons, b_vl2 h0]
  refine va_bald hC.1 hC.2.1 hG.1 hR.1 o.toNat 1 hat rfl (b_in hr hi) hd ?_
  rw [b_cl hr, hoo, hii]
  exact hk
theorem x_zald {o i : Int} {N : Nat} (hd : decode (bZ_M Z).2.1 pc = .ok (.baload, 1)) (ho : b_is n o 1 2 N) (hi : 0 ≤ i ∧ i < N) (hq : pc + 1 = q) (k : b_X Z n u v q ls ((0, w o i) :: st) w) : b_X Z n u v pc ls ((0, i) :: (2, o) :: st) w := by
  subst hq
  obtain ⟨h0, h1, h2⟩ := ho
  intro E p e s m args below meth c' H locs ad0 ad lsA hC hG hb ha0 hn hR hS hl hls hst
  have hr := b_ri (b_h0 hst)
  have hoo : ((o.toNat : Nat) : Int) = o := Int.toNat_of_nonneg h0
  have hii : ((i.toNat : Nat) : Int) = i := Int.toNat_of_nonneg hi.1
  have hat := b_ws_at (E := E) (ad := ad) (w := w) h1
  rw [b_en_i w h2] at hat
  have hk := k E p e s m args below meth c' H locs ad0 ad lsA hC hG hb ha0 hn hR hS hl hls (b_all0 (b_oki (by have := hR.2.2.1 o.toNat h1; rw [b_wfo_i h2] at this; have := this i.toNat (by omega); rw [hoo, hii] at this; exact b_rng_i this)) (b_tl (b_tl hst)))
  rw [List.map_cons, List.map_cons, b_vl2 h0]
  refine va_zald hC.1 hC.2.1 hG.1 hR.1 o.toNat 2 hat rfl (b_in hr hi) hd ?_
  rw [b_cl hr, hoo, hii]
  exact hk
theorem x_sald {o i : Int} {N : Nat} (hd : decode (bZ_M Z).2.1 pc = .ok (.saload, 1)) (ho : b_is n o 1 4 N) (hi : 0 ≤ i ∧ i < N) (hq : pc + 1 = q) (k : b_X Z n u v q ls ((0, w o i) :: st) w) : b_X Z n u v pc ls ((0, i) :: (2, o) :: st) w := by
  subst hq
  obtain ⟨h0, h1, h2⟩ := ho
  intro E p e s m args below meth c' H locs ad0 ad lsA hC hG hb ha0 hn hR hS hl hls hst
  have hr := b_ri (b_h0 hst)
  have hoo : ((o.toNat : Nat) : Int) = o := Int.toNat_of_nonneg h0
  have hii : ((i.toNat : Nat) : Int) = i := Int.toNat_of_nonneg hi.1
  have hat := b_ws_at (E := E) (ad := ad) (w := w) h1
  rw [b_en_i w h2] at hat
  have hk := k E p e s m args below meth c' H locs ad0 ad lsA hC hG hb ha0 hn hR hS hl hls (b_all0 (b_oki (by have := hR.2.2.1 o.toNat h1; rw [b_wfo_i h2] at this; have := this i.toNat (by omega); rw [hoo, hii] at this; exact b_rng_i this)) (b_tl (b_tl hst)))
  rw [List.map_cons, List.map_cons, b_vl2 h0]
  refine va_sald hC.1 hC.2.1 hG.1 hR.1 o.toNat 4 hat rfl (b_in hr hi) hd ?_
  rw [b_cl hr, hoo, hii]
  exact hk
theorem x_lald {o i : Int} {N : Nat} (hd : decode (bZ_M Z).2.1 pc = .ok (.laload, 1)) (ho : b_is n o 2 3 N) (hi : 0 ≤ i ∧ i < N) (hq : pc + 1 = q) (k : b_X Z n u v q ls ((1, w o i) :: st) w) : b_X Z n u v pc ls ((0, i) :: (2, o) :: st) w := by
  subst hq
  obtain ⟨h0, h1, h2⟩ := ho
  intro E p e s m args below meth c' H locs ad0 ad lsA hC hG hb ha0 hn hR hS hl hls hst
  have hr := b_ri (b_h0 hst)
  have hoo : ((o.toNat : Nat) : Int) = o := Int.toNat_of_nonneg h0
  have hii : ((i.toNat : Nat) : Int) = i := Int.toNat_of_nonneg hi.1
  have hat := b_ws_at (E := E) (ad := ad) (w := w) h1
  rw [b_en_l w h2] at hat
  have hk := k E p e s m args below meth c' H locs ad0 ad lsA hC hG hb ha0 hn hR hS hl hls (b_all0 (b_okl (by have := hR.2.2.1 o.toNat h1; rw [b_wfo_l h2] at this; have := this i.toNat (by omega); rw [hoo, hii] at this; exact this)) (b_tl (b_tl hst)))
  rw [List.map_cons, List.map_cons, b_vl2 h0]
  refine va_lald hC.1 hC.2.1 hG.1 hR.1 o.toNat 3 hat rfl (b_in hr hi) hd ?_
  rw [b_cl hr, hoo, hii]
  exact hk
theorem x_iast {o i x : Int} {N : Nat} (hd : decode (bZ_M Z).2.1 pc = .ok (.iastore, 1)) (ho : b_is n o 1 0 N) (hi : 0 ≤ i ∧ i < N) (hq : pc + 1 = q) (k : b_X Z n u v q ls st (b_up w o i x)) : b_X Z n u v pc ls ((0, x) :: (0, i) :: (2, o) :: st) w := by
  subst hq
  obtain ⟨h0, h1, h2⟩ := ho
  obtain ⟨kk, rfl⟩ : ∃ kk : Nat, o = kk := ⟨o.toNat, (Int.toNat_of_nonneg h0).symm⟩
  obtain ⟨ii, rfl⟩ : ∃ ii : Nat, i = ii := ⟨i.toNat, (Int.toNat_of_nonneg hi.1).symm⟩
  rw [Int.toNat_natCast] at h1 h2
  intro E p e s m args below meth c' H locs ad0 ad lsA hC hG hb ha0 hn hR hS hl hls hst
  have hr := b_ri (b_h1 hst)
  have hat := b_ws_at (E := E) (ad := ad) (w := w) h1
  rw [b_en_i w h2] at hat
  rw [List.map_cons, List.map_cons, List.map_cons, b_vl2n]
  refine va_iast hC.1 hC.2.1 hG.1 hR.1 hR.2.1 hS kk 0 hat rfl (b_in hr hi) hd (fun H1 locs1 p1 p2 p3 => ?_)
  · dsimp only [b_vl] at p1 p2
    rw [b_cl hr, Int.toNat_natCast] at p1 p2
    rw [b_updI, b_setA h1 (b_en_i _ h2)] at p1 p2
    exact k E p e s m args below meth c' H1 locs1 ad0 ad lsA hC (b_G_of_S hG hb hS p3) hb ha0 hn ⟨p1, p2, b_wf_up hR.2.2.1 (b_wfo_a h2 (hR.2.2.1 kk h1) (b_ri (b_h0 hst))), hR.2.2.2.1, b_sc_of hR.2.2.2.2.1 (fun o x ho => b_up_ne (Or.inl (by omega))), b_fin_up hR.2.2.2.2.2 (Or.inl (b_nf_arr h2 (by decide)))⟩ p3 hl hls (b_tl (b_tl (b_tl hst)))
theorem x_bast {o i x : Int} {N : Nat} (hd : decode (bZ_M Z).2.1 pc = .ok (.bastore, 1)) (ho : b_is n o 1 1 N) (hi : 0 ≤ i ∧ i < N) (hq : pc + 1 = q) (k : b_X Z n u v q ls st (b_up w o i (b_b8 x))) : b_X Z n u v pc ls ((0, x) :: (0, i) :: (2, o) :: st) w := by
  subst hq
  obtain ⟨h0, h1, h2⟩ := ho
  obtain ⟨kk, rfl⟩ : ∃ kk : Nat, o = kk := ⟨o.toNat, (Int.toNat_of_nonneg h0).symm⟩
  obtain ⟨ii, rfl⟩ : ∃ ii : Nat, i = ii := ⟨i.toNat, (Int.toNat_of_nonneg hi.1).symm⟩
  rw [Int.toNat_natCast] at h1 h2
  intro E p e s m args below meth c' H locs ad0 ad lsA hC hG hb ha0 hn hR hS hl hls hst
  have hr := b_ri (b_h1 hst)
  have hat := b_ws_at (E := E) (ad := ad) (w := w) h1
  rw [b_en_i w h2] at hat
  rw [List.map_cons, List.map_cons, List.map_cons, b_vl2n]
  refine va_bast hC.1 hC.2.1 hG.1 hR.1 hR.2.1 hS kk 1 hat rfl (b_in hr hi) hd (fun H1 locs1 p1 p2 p3 => ?_)
  · dsimp only [b_vl] at p1 p2
    rw [b_cl hr, Int.toNat_natCast] at p1 p2
    rw [b_nb x] at p1 p2
    rw [b_updI, b_setA h1 (b_en_i _ h2)] at p1 p2
    exact k E p e s m args below meth c' H1 locs1 ad0 ad lsA hC (b_G_of_S hG hb hS p3) hb ha0 hn ⟨p1, p2, b_wf_up hR.2.2.1 (b_wfo_a h2 (hR.2.2.1 kk h1) (b_b8_r x)), hR.2.2.2.1, b_sc_of hR.2.2.2.2.1 (fun o x ho => b_up_ne (Or.inl (by omega))), b_fin_up hR.2.2.2.2.2 (Or.inl (b_nf_arr h2 (by decide)))⟩ p3 hl hls (b_tl (b_tl (b_tl hst)))
theorem x_zast {o i x : Int} {N : Nat} (hd : decode (bZ_M Z).2.1 pc = .ok (.bastore, 1)) (ho : b_is n o 1 2 N) (hi : 0 ≤ i ∧ i < N) (hq : pc + 1 = q) (k : b_X Z n u v q ls st (b_up w o i (x % 2))) : b_X Z n u v pc ls ((0, x) :: (0, i) :: (2, o) :: st) w := by
  subst hq
  obtain ⟨h0, h1, h2⟩ := ho
  obtain ⟨kk, rfl⟩ : ∃ kk : Nat, o = kk := ⟨o.toNat, (Int.toNat_of_nonneg h0).symm⟩
  obtain ⟨ii, rfl⟩ : ∃ ii : Nat, i = ii := ⟨i.toNat, (Int.toNat_of_nonneg hi.1).symm⟩
  rw [Int.toNat_natCast] at h1 h2
  intro E p e s m args below meth c' H locs ad0 ad lsA hC hG hb ha0 hn hR hS hl hls hst
  have hr := b_ri (b_h1 hst)
  have hat := b_ws_at (E := E) (ad := ad) (w := w) h1
  rw [b_en_i w h2] at hat
  rw [List.map_cons, List.map_cons, List.map_cons, b_vl2n]
  refine va_zast hC.1 hC.2.1 hG.1 hR.1 hR.2.1 hS kk 2 hat rfl (b_in hr hi) hd (fun H1 locs1 p1 p2 p3 => ?_)
  · dsimp only [b_vl] at p1 p2
    rw [b_cl hr, Int.toNat_natCast] at p1 p2
    rw [b_z2 x (b_ri (b_h0 hst))] at p1 p2
    rw [b_updI, b_setA h1 (b_en_i _ h2)] at p1 p2
    exact k E p e s m args below meth c' H1 locs1 ad0 ad lsA hC (b_G_of_S hG hb hS p3) hb ha0 hn ⟨p1, p2, b_wf_up hR.2.2.1 (b_wfo_a h2 (hR.2.2.1 kk h1) ((by show 0 ≤ x % 2 ∧ x % 2 ≤ 1; omega))), hR.2.2.2.1, b_sc_of hR.2.2.2.2.1 (fun o x ho => b_up_ne (Or.inl (by omega))), b_fin_up hR.2.2.2.2.2 (Or.inl (b_nf_arr h2 (by decide)))⟩ p3 hl hls (b_tl (b_tl (b_tl hst)))
theorem x_sast {o i x : Int} {N : Nat} (hd : decode (bZ_M Z).2.1 pc = .ok (.sastore, 1)) (ho : b_is n o 1 4 N) (hi : 0 ≤ i ∧ i < N) (hq : pc + 1 = q) (k : b_X Z n u v q ls st (b_up w o i (b_s16 x))) : b_X Z n u v pc ls ((0, x) :: (0, i) :: (2, o) :: st) w := by
  subst hq
  obtain ⟨h0, h1, h2⟩ := ho
  obtain ⟨kk, rfl⟩ : ∃ kk : Nat, o = kk := ⟨o.toNat, (Int.toNat_of_nonneg h0).symm⟩
  obtain ⟨ii, rfl⟩ : ∃ ii : Nat, i = ii := ⟨i.toNat, (Int.toNat_of_nonneg hi.1).symm⟩
  rw [Int.toNat_natCast] at h1 h2
  intro E p e s m args below meth c' H locs ad0 ad lsA hC hG hb ha0 hn hR hS hl hls hst
  have hr := b_ri (b_h1 hst)
  have hat := b_ws_at (E := E) (ad := ad) (w := w) h1
  rw [b_en_i w h2] at hat
  rw [List.map_cons, List.map_cons, List.map_cons, b_vl2n]
  refine va_sast hC.1 hC.2.1 hG.1 hR.1 hR.2.1 hS kk 4 hat rfl (b_in hr hi) hd (fun H1 locs1 p1 p2 p3 => ?_)
  · dsimp only [b_vl] at p1 p2
    rw [b_cl hr, Int.toNat_natCast] at p1 p2
    rw [b_ns x] at p1 p2
    rw [b_updI, b_setA h1 (b_en_i _ h2)] at p1 p2
    exact k E p e s m args below meth c' H1 locs1 ad0 ad lsA hC (b_G_of_S hG hb hS p3) hb ha0 hn ⟨p1, p2, b_wf_up hR.2.2.1 (b_wfo_a h2 (hR.2.2.1 kk h1) (b_s16_r x)), hR.2.2.2.1, b_sc_of hR.2.2.2.2.1 (fun o x ho => b_up_ne (Or.inl (by omega))), b_fin_up hR.2.2.2.2.2 (Or.inl (b_nf_arr h2 (by decide)))⟩ p3 hl hls (b_tl (b_tl (b_tl hst)))
theorem x_last {o i x : Int} {N : Nat} (hd : decode (bZ_M Z).2.1 pc = .ok (.lastore, 1)) (ho : b_is n o 2 3 N) (hi : 0 ≤ i ∧ i < N) (hq : pc + 1 = q) (k : b_X Z n u v q ls st (b_up w o i x)) : b_X Z n u v pc ls ((1, x) :: (0, i) :: (2, o) :: st) w := by
  subst hq
  obtain ⟨h0, h1, h2⟩ := ho
  obtain ⟨kk, rfl⟩ : ∃ kk : Nat, o = kk := ⟨o.toNat, (Int.toNat_of_nonneg h0).symm⟩
  obtain ⟨ii, rfl⟩ : ∃ ii : Nat, i = ii := ⟨i.toNat, (Int.toNat_of_nonneg hi.1).symm⟩
  rw [Int.toNat_natCast] at h1 h2
  intro E p e s m args below meth c' H locs ad0 ad lsA hC hG hb ha0 hn hR hS hl hls hst
  have hr := b_ri (b_h1 hst)
  have hat := b_ws_at (E := E) (ad := ad) (w := w) h1
  rw [b_en_l w h2] at hat
  rw [List.map_cons, List.map_cons, List.map_cons, b_vl2n]
  refine va_last hC.1 hC.2.1 hG.1 hR.1 hR.2.1 hS kk 3 hat rfl (b_in hr hi) hd (fun H1 locs1 p1 p2 p3 => ?_)
  · dsimp only [b_vl] at p1 p2
    rw [b_cl hr, Int.toNat_natCast] at p1 p2
    rw [b_updL, b_setA h1 (b_en_l _ h2)] at p1 p2
    exact k E p e s m args below meth c' H1 locs1 ad0 ad lsA hC (b_G_of_S hG hb hS p3) hb ha0 hn ⟨p1, p2, b_wf_up hR.2.2.1 (by have hw := hR.2.2.1 kk h1; rw [b_wfo_l h2] at hw ⊢; intro j hj; rw [b_up_fld]; split; exact b_rl (b_h0 hst); exact hw j hj), hR.2.2.2.1, b_sc_of hR.2.2.2.2.1 (fun o x ho => b_up_ne (Or.inl (by omega))), b_fin_up hR.2.2.2.2.2 (Or.inl (b_nf_arr h2 (by decide)))⟩ p3 hl hls (b_tl (b_tl (b_tl hst)))
end BridgeArr
