section BridgeMisc
variable {Z : bZ} {n u v pc q : Nat} {ls st : List bV} {w : bW}
theorem b_G_s {E : bE} {s : State} {H : Heap} {locs : List Loc} (hG : b_G E s H) (hb : bE_b E ≤ s.heap.size) (hS : va_S (bA E) s.heap H locs) : b_G E s s.heap :=
  hG.kept (fun a ha => (hS.2.1 a (by omega) (by unfold bA; omega)).symm) hb
theorem b_ltL' {x y : Int} (hx : -9223372036854775808 ≤ x ∧ x ≤ 9223372036854775807) (hy : -9223372036854775808 ≤ y ∧ y ≤ 9223372036854775807) : lg_cmp (Int64.ofInt x) (Int64.ofInt y) = if y < x then 1 else if x = y then 0 else -1 := by
  unfold lg_cmp
  have h1 : (Int64.ofInt x > Int64.ofInt y) ↔ y < x := b_ltL hy hx
  have h2 := b_eqL hx hy
  by_cases a : y < x
  · rw [if_pos (h1.mpr a), if_pos a]
  · rw [if_neg (fun h => a (h1.mp h)), if_neg a]
    by_cases b : x = y
    · rw [if_pos (h2.mpr b), if_pos b]
    · rw [if_neg (fun h => b (h2.mp h)), if_neg b]
theorem x_lc_eq {x y : Int} {t : Nat} (off : Int) (hd : decode (bZ_M Z).2.1 pc = .ok (.lcmp, 1)) (hd2 : decode (bZ_M Z).2.1 (pc + 1) = .ok (.ifCond .eq off, 3)) (ht : ((pc + 1 : Nat) : Int) + off = (t : Int)) (hq : pc + 4 = q) (k : if x = y then b_X Z n u v t ls st w else b_X Z n u v q ls st w) : b_X Z n u v pc ls ((1, y) :: (1, x) :: st) w := by
  subst hq
  intro E p e s m args below meth c H locs ad0 ad lsA hC hG hb ha0 hn hR hS hl hls hst
  have hi : ∀ z : Int32, z = lg_cmp (Int64.ofInt x) (Int64.ofInt y) → ((z = 0) ↔ (x = y)) := by
    intro z hz
    rw [b_ltL' (b_rl (b_h1 hst)) (b_rl (b_h0 hst))] at hz
    by_cases a : y < x
    · rw [if_pos a] at hz
      subst hz
      constructor <;> intro h <;> first | omega | (exact absurd h (by decide)) | decide
    · rw [if_neg a] at hz
      by_cases b : x = y
      · rw [if_pos b] at hz
        subst hz
        constructor <;> intro h <;> first | omega | (exact absurd h (by decide)) | decide
      · rw [if_neg b] at hz
        subst hz
        constructor <;> intro h <;> first | omega | (exact absurd h (by decide)) | decide
  refine W.lcmp hC.1 hC.2.1 hd ?_
  refine lv_if_eq hC.1 hC.2.1 hd2 ht (fun h => ?_) (fun h => ?_)
  · rw [if_pos ((hi _ rfl).mp h)] at k
    exact k E p e s m args below meth c H locs ad0 ad lsA hC hG hb ha0 hn hR hS hl hls (b_tl (b_tl hst))
  · rw [if_neg (fun h' => h ((hi _ rfl).mpr h'))] at k
    exact k E p e s m args below meth c H locs ad0 ad lsA hC hG hb ha0 hn hR hS hl hls (b_tl (b_tl hst))
theorem x_lc_ne {x y : Int} {t : Nat} (off : Int) (hd : decode (bZ_M Z).2.1 pc = .ok (.lcmp, 1)) (hd2 : decode (bZ_M Z).2.1 (pc + 1) = .ok (.ifCond .ne off, 3)) (ht : ((pc + 1 : Nat) : Int) + off = (t : Int)) (hq : pc + 4 = q) (k : if x ≠ y then b_X Z n u v t ls st w else b_X Z n u v q ls st w) : b_X Z n u v pc ls ((1, y) :: (1, x) :: st) w := by
  subst hq
  intro E p e s m args below meth c H locs ad0 ad lsA hC hG hb ha0 hn hR hS hl hls hst
  have hi : ∀ z : Int32, z = lg_cmp (Int64.ofInt x) (Int64.ofInt y) → ((¬ z = 0) ↔ (x ≠ y)) := by
    intro z hz
    rw [b_ltL' (b_rl (b_h1 hst)) (b_rl (b_h0 hst))] at hz
    by_cases a : y < x
    · rw [if_pos a] at hz
      subst hz
      constructor <;> intro h <;> first | omega | (exact absurd h (by decide)) | decide
    · rw [if_neg a] at hz
      by_cases b : x = y
      · rw [if_pos b] at hz
        subst hz
        constructor <;> intro h <;> first | omega | (exact absurd h (by decide)) | decide
      · rw [if_neg b] at hz
        subst hz
        constructor <;> intro h <;> first | omega | (exact absurd h (by decide)) | decide
  refine W.lcmp hC.1 hC.2.1 hd ?_
  refine lv_if_ne hC.1 hC.2.1 hd2 ht (fun h => ?_) (fun h => ?_)
  · rw [if_pos ((hi _ rfl).mp h)] at k
    exact k E p e s m args below meth c H locs ad0 ad lsA hC hG hb ha0 hn hR hS hl hls (b_tl (b_tl hst))
  · rw [if_neg (fun h' => ((hi _ rfl).mpr h') h)] at k
    exact k E p e s m args below meth c H locs ad0 ad lsA hC hG hb ha0 hn hR hS hl hls (b_tl (b_tl hst))
theorem x_lc_lt {x y : Int} {t : Nat} (off : Int) (hd : decode (bZ_M Z).2.1 pc = .ok (.lcmp, 1)) (hd2 : decode (bZ_M Z).2.1 (pc + 1) = .ok (.ifCond .lt off, 3)) (ht : ((pc + 1 : Nat) : Int) + off = (t : Int)) (hq : pc + 4 = q) (k : if x < y then b_X Z n u v t ls st w else b_X Z n u v q ls st w) : b_X Z n u v pc ls ((1, y) :: (1, x) :: st) w := by
  subst hq
  intro E p e s m args below meth c H locs ad0 ad lsA hC hG hb ha0 hn hR hS hl hls hst
  have hi : ∀ z : Int32, z = lg_cmp (Int64.ofInt x) (Int64.ofInt y) → ((z < 0) ↔ (x < y)) := by
    intro z hz
    rw [b_ltL' (b_rl (b_h1 hst)) (b_rl (b_h0 hst))] at hz
    by_cases a : y < x
    · rw [if_pos a] at hz
      subst hz
      constructor <;> intro h <;> first | omega | (exact absurd h (by decide)) | decide
    · rw [if_neg a] at hz
      by_cases b : x = y
      · rw [if_pos b] at hz
        subst hz
        constructor <;> intro h <;> first | omega | (exact absurd h (by decide)) | decide
      · rw [if_neg b] at hz
        subst hz
        constructor <;> intro h <;> first | omega | (exact absurd h (by decide)) | decide
  refine W.lcmp hC.1 hC.2.1 hd ?_
  refine lv_if_lt hC.1 hC.2.1 hd2 ht (fun h => ?_) (fun h => ?_)
  · rw [if_pos ((hi _ rfl).mp h)] at k
    exact k E p e s m args below meth c H locs ad0 ad lsA hC hG hb ha0 hn hR hS hl hls (b_tl (b_tl hst))
  · rw [if_neg (fun h' => h ((hi _ rfl).mpr h'))] at k
    exact k E p e s m args below meth c H locs ad0 ad lsA hC hG hb ha0 hn hR hS hl hls (b_tl (b_tl hst))
theorem x_lc_ge {x y : Int} {t : Nat} (off : Int) (hd : decode (bZ_M Z).2.1 pc = .ok (.lcmp, 1)) (hd2 : decode (bZ_M Z).2.1 (pc + 1) = .ok (.ifCond .ge off, 3)) (ht : ((pc + 1 : Nat) : Int) + off = (t : Int)) (hq : pc + 4 = q) (k : if y ≤ x then b_X Z n u v t ls st w else b_X Z n u v q ls st w) : b_X Z n u v pc ls ((1, y) :: (1, x) :: st) w := by
  subst hq
  intro E p e s m args below meth c H locs ad0 ad lsA hC hG hb ha0 hn hR hS hl hls hst
  have hi : ∀ z : Int32, z = lg_cmp (Int64.ofInt x) (Int64.ofInt y) → ((0 ≤ z) ↔ (y ≤ x)) := by
    intro z hz
    rw [b_ltL' (b_rl (b_h1 hst)) (b_rl (b_h0 hst))] at hz
    by_cases a : y < x
    · rw [if_pos a] at hz
      subst hz
      constructor <;> intro h <;> first | omega | (exact absurd h (by decide)) | decide
    · rw [if_neg a] at hz
      by_cases b : x = y
      · rw [if_pos b] at hz
        subst hz
        constructor <;> intro h <;> first | omega | (exact absurd h (by decide)) | decide
      · rw [if_neg b] at hz
        subst hz
        constructor <;> intro h <;> first | omega | (exact absurd h (by decide)) | decide
  refine W.lcmp hC.1 hC.2.1 hd ?_
  refine lv_if_ge hC.1 hC.2.1 hd2 ht (fun h => ?_) (fun h => ?_)
  · rw [if_pos ((hi _ rfl).mp h)] at k
    exact k E p e s m args below meth c H locs ad0 ad lsA hC hG hb ha0 hn hR hS hl hls (b_tl (b_tl hst))
  · rw [if_neg (fun h' => h ((hi _ rfl).mpr h'))] at k
    exact k E p e s m args below meth c H locs ad0 ad lsA hC hG hb ha0 hn hR hS hl hls (b_tl (b_tl hst))
theorem x_lc_gt {x y : Int} {t : Nat} (off : Int) (hd : decode (bZ_M Z).2.1 pc = .ok (.lcmp, 1)) (hd2 : decode (bZ_M Z).2.1 (pc + 1) = .ok (.ifCond .gt off, 3)) (ht : ((pc + 1 : Nat) : Int) + off = (t : Int)) (hq : pc + 4 = q) (k : if y < x then b_X Z n u v t ls st w else b_X Z n u v q ls st w) : b_X Z n u v pc ls ((1, y) :: (1, x) :: st) w := by
  subst hq
  intro E p e s m args below meth c H locs ad0 ad lsA hC hG hb ha0 hn hR hS hl hls hst
  have hi : ∀ z : Int32, z = lg_cmp (Int64.ofInt x) (Int64.ofInt y) → ((0 < z) ↔ (y < x)) := by
    intro z hz
    rw [b_ltL' (b_rl (b_h1 hst)) (b_rl (b_h0 hst))] at hz
    by_cases a : y < x
    · rw [if_pos a] at hz
      subst hz
      constructor <;> intro h <;> first | omega | (exact absurd h (by decide)) | decide
    · rw [if_neg a] at hz
      by_cases b : x = y
      · rw [if_pos b] at hz
        subst hz
        constructor <;> intro h <;> first | omega | (exact absurd h (by decide)) | decide
      · rw [if_neg b] at hz
        subst hz
        constructor <;> intro h <;> first | omega | (exact absurd h (by decide)) | decide
  refine W.lcmp hC.1 hC.2.1 hd ?_
  refine lv_if_gt hC.1 hC.2.1 hd2 ht (fun h => ?_) (fun h => ?_)
  · rw [if_pos ((hi _ rfl).mp h)] at k
    exact k E p e s m args below meth c H locs ad0 ad lsA hC hG hb ha0 hn hR hS hl hls (b_tl (b_tl hst))
  · rw [if_neg (fun h' => h ((hi _ rfl).mpr h'))] at k
    exact k E p e s m args below meth c H locs ad0 ad lsA hC hG hb ha0 hn hR hS hl hls (b_tl (b_tl hst))
theorem x_lc_le {x y : Int} {t : Nat} (off : Int) (hd : decode (bZ_M Z).2.1 pc = .ok (.lcmp, 1)) (hd2 : decode (bZ_M Z).2.1 (pc + 1) = .ok (.ifCond .le off, 3)) (ht : ((pc + 1 : Nat) : Int) + off = (t : Int)) (hq : pc + 4 = q) (k : if x ≤ y then b_X Z n u v t ls st w else b_X Z n u v q ls st w) : b_X Z n u v pc ls ((1, y) :: (1, x) :: st) w := by
  subst hq
  intro E p e s m args below meth c H locs ad0 ad lsA hC hG hb ha0 hn hR hS hl hls hst
  have hi : ∀ z : Int32, z = lg_cmp (Int64.ofInt x) (Int64.ofInt y) → ((z ≤ 0) ↔ (x ≤ y)) := by
    intro z hz
    rw [b_ltL' (b_rl (b_h1 hst)) (b_rl (b_h0 hst))] at hz
    by_cases a : y < x
    · rw [if_pos a] at hz
      subst hz
      constructor <;> intro h <;> first | omega | (exact absurd h (by decide)) | decide
    · rw [if_neg a] at hz
      by_cases b : x = y
      · rw [if_pos b] at hz
        subst hz
        constructor <;> intro h <;> first | omega | (exact absurd h (by decide)) | decide
      · rw [if_neg b] at hz
        subst hz
        constructor <;> intro h <;> first | omega | (exact absurd h (by decide)) | decide
  refine W.lcmp hC.1 hC.2.1 hd ?_
  refine lv_if_le hC.1 hC.2.1 hd2 ht (fun h => ?_) (fun h => ?_)
  · rw [if_pos ((hi _ rfl).mp h)] at k
    exact k E p e s m args below meth c H locs ad0 ad lsA hC hG hb ha0 hn hR hS hl hls (b_tl (b_tl hst))
  · rw [if_neg (fun h' => h ((hi _ rfl).mpr h'))] at k
    exact k E p e s m args below meth c H locs ad0 ad lsA hC hG hb ha0 hn hR hS hl hls (b_tl (b_tl hst))
theorem x_tsO {dflt lo hi : Int} {offs : Array Int} {len t : Nat} {x : Int} (hd : decode (bZ_M Z).2.1 pc = .ok (.tableswitch dflt lo hi offs, len)) (h : x < lo ∨ hi < x) (ht : (pc : Int) + dflt = (t : Int)) (k : b_X Z n u v t ls st w) : b_X Z n u v pc ls ((0, x) :: st) w := by
  refine b_stk b_tl (fun E p e R s m args below meth c H locs Q ad lsA hx hb hown hts hl hst k => ?_) k
  exact lv_tableOut hx hb hd (by show (Int32.ofInt x).toInt < lo ∨ hi < (Int32.ofInt x).toInt; rw [b_toI (b_ri (b_h0 hst))]; exact h) ht k
theorem x_tsI {dflt lo hi off : Int} {offs : Array Int} {len t : Nat} {x : Int} (hd : decode (bZ_M Z).2.1 pc = .ok (.tableswitch dflt lo hi offs, len)) (h1 : ¬ x < lo) (h2 : ¬ hi < x) (ho : offs[(x - lo).toNat]? = some off) (ht : (pc : Int) + off = (t : Int)) (k : b_X Z n u v t ls st w) : b_X Z n u v pc ls ((0, x) :: st) w := by
  refine b_stk b_tl (fun E p e R s m args below meth c H locs Q ad lsA hx hb hown hts hl hst k => ?_) k
  have e := b_toI (b_ri (b_h0 hst))
  exact lv_tableIn hx hb hd (by show ¬ (Int32.ofInt x).toInt < lo; rw [e]; exact h1) (by show ¬ hi < (Int32.ofInt x).toInt; rw [e]; exact h2) (by show offs[((Int32.ofInt x).toInt - lo).toNat]? = _; rw [e]; exact ho) ht k
theorem x_lsw {dflt off : Int} {ps : Array (Int × Int)} {len t : Nat} {x : Int} (hd : decode (bZ_M Z).2.1 pc = .ok (.lookupswitch dflt ps, len)) (hp : (ps.toList.zip (ps.toList.drop 1)).all (fun (a, next) => a.1 < next.1) = true) (ho : Op.lookupswitch.offset ps.toList dflt x = off) (ht : (pc : Int) + off = (t : Int)) (k : b_X Z n u v t ls st w) : b_X Z n u v pc ls ((0, x) :: st) w := by
  refine b_stk b_tl (fun E p e R s m args below meth c H locs Q ad lsA hx hb hown hts hl hst k => ?_) k
  have e := b_toI (b_ri (b_h0 hst))
  exact lv_lookup hx hb hd hp (by show Op.lookupswitch.offset ps.toList dflt (Int32.ofInt x).toInt = _; rw [e]; exact ho) ht k
/-- rows of objects -/
theorem x_aald {o i : Int} {N t : Nat} (hd : decode (bZ_M Z).2.1 pc = .ok (.aaload, 1)) (ho : b_is n o 3 t N) (ht : t = 5 ∨ t = 6) (hi : 0 ≤ i ∧ i < N) (hq : pc + 1 = q) (k : b_X Z n u v q ls ((2, w o i) :: st) w) : b_X Z n u v pc ls ((0, i) :: (2, o) :: st) w := by
  subst hq
  obtain ⟨h0, h1, h2⟩ := ho
  intro E p e s m args below meth c' H locs ad0 ad lsA hC hG hb ha0 hn hR hS hl hls hst
  have hr := b_ri (b_h0 hst)
  have hoo : ((o.toNat : Nat) : Int) = o := Int.toNat_of_nonneg h0
  have hii : ((i.toNat : Nat) : Int) = i := Int.toNat_of_nonneg hi.1
  have hat := b_ws_at (E := E) (ad := ad) (w := w) h1
  rw [b_en_q w h2] at hat
  have hk := k E p e s m args below meth c' H locs ad0 ad lsA hC hG hb ha0 hn hR hS hl hls (b_all0 (b_okr (by have := hR.2.2.1 o.toNat h1; rw [b_wfo_q h2] at this; have := this i.toNat (by omega); rw [hoo, hii] at this; exact this)) (b_tl (b_tl hst)))
  rw [List.map_cons, List.map_cons, b_vl2 h0]
  have hv : va_rf ((fun j : Nat => if j < N then (if w o.toNat j < 0 then none else some (ad (w o.toNat j).toNat)) else none) (Int32.ofInt i).toNatClampNeg) = b_vl E ad (2, w o i) := by
    rw [b_cl hr]
    show va_rf (if i.toNat < N then (if w o.toNat i.toNat < 0 then none else some (ad (w o.toNat i.toNat).toNat)) else none) = _
    rw [if_pos (by omega), hoo, hii]
    have : b_vl E ad (2, w o i) = if w o i < 0 then Value.null else Value.ref (ad (w o i).toNat) := rfl
    rw [this]
    split <;> rfl
  rcases ht with rfl | rfl
  · refine va_aldq hC.1 hC.2.1 hG.1 hR.1 o.toNat 5 hat rfl (b_in hr hi) hd ?_
    rw [hv]
    exact hk
  · refine va_aldq hC.1 hC.2.1 hG.1 hR.1 o.toNat 6 hat rfl (b_in hr hi) hd ?_
    rw [hv]
    exact hk
theorem x_aast {o i x : Int} {N t c N' : Nat} {C : String} {T : u_T} (hd : decode (bZ_M Z).2.1 pc = .ok (.aastore, 1)) (ho : b_is n o 3 t N) (ht : (b_aty t = .object C) ∧ (t = 5 ∨ t = 6)) (hx : b_is n x 0 c N') (hc : vwCl[c]? = some (C, T, N')) (hth : n < b_thr o) (hi : 0 ≤ i ∧ i < N) (hq : pc + 1 = q) (k : b_X Z n u v q ls st (b_up w o i x)) : b_X Z n u v pc ls ((2, x) :: (0, i) :: (2, o) :: st) w := by
  subst hq
  obtain ⟨h0, h1, h2⟩ := ho
  obtain ⟨x0, x1, x2⟩ := hx
  obtain ⟨kk, rfl⟩ : ∃ kk : Nat, o = kk := ⟨o.toNat, (Int.toNat_of_nonneg h0).symm⟩
  obtain ⟨ii, rfl⟩ : ∃ ii : Nat, i = ii := ⟨i.toNat, (Int.toNat_of_nonneg hi.1).symm⟩
  obtain ⟨xx, rfl⟩ : ∃ xx : Nat, x = xx := ⟨x.toNat, (Int.toNat_of_nonneg x0).symm⟩
  rw [Int.toNat_natCast] at h1 h2 x1 x2
  intro E p e s m args below meth c' H locs ad0 ad lsA hC hG hb ha0 hn hR hS hl hls hst
  have hr := b_ri (b_h1 hst)
  have hat := b_ws_at (E := E) (ad := ad) (w := w) h1
  rw [b_en_q w h2] at hat
  have hax := b_ws_at (E := E) (ad := ad) (w := w) x1
  rw [b_en_o w x2] at hax
  rw [List.map_cons, List.map_cons, List.map_cons, b_vl2n, b_vl2n]
  have hty : (b_tys (bE_a E))[t]? = some (bE_a E t, .object C) := by
    rcases ht with ⟨e, rfl | rfl⟩
    · rw [← e]; rfl
    · rw [← e]; rfl
  refine va_astq hC.1 hC.2.1 hG.1 hR.1 hR.2.1 hS kk t xx c hat hty hax hc (b_in hr hi) hd (fun H1 locs1 p1 p2 p3 => ?_)
  have hup : va_up (fun j : Nat => if j < N then (if w kk j < 0 then none else some (ad (w kk j).toNat)) else none) ii (some (ad xx)) = fun j : Nat => if j < N then (if b_up w kk ii xx kk j < 0 then none else some (ad (b_up w kk ii xx kk j).toNat)) else none := by
    funext j
    unfold va_up
    rw [b_up_fld]
    by_cases hj : j = ii
    · subst hj
      rw [if_pos rfl, if_pos (by omega), if_pos rfl, if_neg (by omega), Int.toNat_natCast]
    · rw [if_neg hj, if_neg hj]
  dsimp only [b_vl] at p1 p2
  rw [b_cl hr, Int.toNat_natCast, hup, b_setA h1 (b_en_q _ h2)] at p1 p2
  exact k E p e s m args below meth c' H1 locs1 ad0 ad lsA hC (b_G_of_S hG hb hS p3) hb ha0 hn ⟨p1, p2, b_wf_up hR.2.2.1 (by have hw := hR.2.2.1 kk h1; rw [b_wfo_q h2] at hw ⊢; intro j hj; rw [b_up_fld]; split; omega; exact hw j hj), hR.2.2.2.1, b_sc_of hR.2.2.2.2.1 (fun o x ho => b_up_ne (Or.inl (by omega))), b_fin_up hR.2.2.2.2.2 (Or.inr hth)⟩ p3 hl hls (b_tl (b_tl (b_tl hst)))
/-- copies between rows -/
def b_cp (w : bW) (a i b j m : Int) : bW := fun o x => if o = b ∧ j ≤ x ∧ x < j + m then w a (i + (x - j)) else w o x
theorem b_cp_ne {w : bW} {a i b j m o x : Int} (h : o ≠ b) : b_cp w a i b j m o x = w o x := by
  unfold b_cp
  rw [if_neg (fun h' => h h'.1)]
theorem b_ws_set' {E : bE} {ad : Nat → Nat} {w w' : bW} {n k : Nat} {e : va_E} (h : k < n) (he : b_en E ad w' k = e) (hne : ∀ o : Nat, o ≠ k → ∀ x : Int, w' o x = w o x) : (b_ws E ad w n).set k (ad k, e) = b_ws E ad w' n := by
  subst he
  apply List.ext_getElem?
  intro i
  by_cases hi : i < n
  · rw [b_ws_at hi]
    by_cases hk : k = i
    · subst hk
      rw [List.getElem?_set_self (by rw [b_ws_len]; exact hi)]
    · rw [List.getElem?_set_ne hk, b_ws_at hi]
      have : ∀ x : Int, w' i x = w i x := hne i (fun e => hk e.symm)
      unfold b_en
      simp only [this]
  · rw [List.getElem?_eq_none (by rw [List.length_set, b_ws_len]; omega), List.getElem?_eq_none (by rw [b_ws_len]; omega)]
theorem b_wf_set {n : Nat} {w w' : bW} {k : Nat} (hw : b_wf n w) (h : b_wfo n w' k) (hne : ∀ o : Nat, o ≠ k → ∀ x : Int, w' o x = w o x) : b_wf n w' := by
  intro i hi
  by_cases hk : i = k
  · subst hk
    exact h
  · have h1 := hw i hi
    have : ∀ x : Int, w' i x = w i x := hne i hk
    unfold b_wfo at h1 ⊢
    simp only [this]
    exact h1
theorem x_copyi (idx : Nat) {a b i j m : Int} {t NA NB : Nat} (hd : decode (bZ_M Z).2.1 pc = .ok (.invokestatic idx, 3)) (h1 : Cond.methodLink (bZ_M Z).1.cls idx arraycopyName ∈ lw_all) (h2 : Cond.native arraycopyName ∈ lw_all) (h3 : Cond.static arraycopyName ∈ lw_all) (h4 : Cond.initialized "java/lang/System" ∈ lw_all)
    (ha : b_is n a 1 t NA) (hb1 : b_is n b 1 t NB) (hab : a ≠ b) (ht : t = 0 ∨ t = 1 ∨ t = 2) (hi : 0 ≤ i) (hj : 0 ≤ j) (hm : 0 ≤ m) (hA : i + m ≤ NA) (hB : j + m ≤ NB) (hdd : 1 ≤ Z.1) (hr : Nat.ble (b_wds st) 8 = true) (hq : pc + 3 = q)
    (k : b_X Z n u v q ls st (b_cp w a i b j m)) : b_X Z n u v pc ls ((0, m) :: (0, j) :: (2, b) :: (0, i) :: (2, a) :: st) w := by
  subst hq
  obtain ⟨a0, a1, a2⟩ := ha
  obtain ⟨b0, b1, b2⟩ := hb1
  obtain ⟨aa, rfl⟩ : ∃ aa : Nat, a = aa := ⟨a.toNat, (Int.toNat_of_nonneg a0).symm⟩
  obtain ⟨bb, rfl⟩ : ∃ bb : Nat, b = bb := ⟨b.toNat, (Int.toNat_of_nonneg b0).symm⟩
  obtain ⟨i, rfl⟩ : ∃ i' : Nat, i = i' := ⟨i.toNat, (Int.toNat_of_nonneg hi).symm⟩
  obtain ⟨j, rfl⟩ : ∃ j' : Nat, j = j' := ⟨j.toNat, (Int.toNat_of_nonneg hj).symm⟩
  obtain ⟨m, rfl⟩ : ∃ m' : Nat, m = m' := ⟨m.toNat, (Int.toNat_of_nonneg hm).symm⟩
  rw [Int.toNat_natCast] at a1 a2 b1 b2
  intro E p e s mm args below meth c' H locs ad0 ad lsA hC hG hb ha0 hn hR hS hl hls hst
  have rm := b_ri (b_h0 hst)
  have rj := b_ri (b_h1 hst)
  have ri := b_ri (b_h1 (b_tl (b_tl hst)))
  have hata := b_ws_at (E := E) (ad := ad) (w := w) a1
  rw [b_en_i w a2] at hata
  have hatb := b_ws_at (E := E) (ad := ad) (w := w) b1
  rw [b_en_i w b2] at hatb
  have hneg : ∀ z : Int, 0 ≤ z → (-2147483648 ≤ z ∧ z ≤ 2147483647) → ¬ Int32.ofInt z < 0 := by
    intro z h0 hz
    rw [show (0 : Int32) = Int32.ofInt 0 from rfl, b_ltI hz (by decide)]
    omega
  have cm : (Int32.ofInt (m : Int)).toNatClampNeg = m := by rw [b_cl rm, Int.toNat_natCast]
  have cj : (Int32.ofInt (j : Int)).toNatClampNeg = j := by rw [b_cl rj, Int.toNat_natCast]
  have ci : (Int32.ofInt (i : Int)).toNatClampNeg = i := by rw [b_cl ri, Int.toNat_natCast]
  have hwa := hR.2.2.1 aa a1
  rw [b_wfo_i a2] at hwa
  have hwb := hR.2.2.1 bb b1
  rw [b_wfo_i b2] at hwb
  have hloc : ((st.map (b_vl E ad)).map fun v => v.category).sum + (nativeFrameWords "java/lang/System" "arraycopy" 5 + 11) ≤ (b_rm Z.1 Z.2.1 Z.2.2.1).locals := by
    rw [b_sum]
    have := Nat.le_of_ble_eq_true hr
    have h64 : 64 ≤ (b_rm Z.1 Z.2.1 Z.2.2.1).locals := by show 64 ≤ 64 * Z.1; omega
    have hnw : nativeFrameWords "java/lang/System" "arraycopy" 5 + 11 ≤ 40 := by decide
    omega
  rw [List.map_cons, List.map_cons, List.map_cons, List.map_cons, List.map_cons, b_vl2n, b_vl2n]
  refine va_copyi (ty := b_aty t) hC.1 hC.2.1 (by rw [hC.2.2.2.1]; exact hl.1.symm) hC.2.2.2.2.1 (hC.2.2.2.2.2.1 _ h1) (hC.2.2.2.2.2.1 _ h2) (hC.2.2.2.2.2.1 _ h3) (hC.2.2.2.2.2.1 _ h4) hG.1 hR.1 hR.2.1 hS aa bb t t hata hatb ?_ ?_ ?_ (hneg _ (by omega) ri) (hneg _ (by omega) rj) (hneg _ (by omega) rm) (by rw [ci, cm]; omega) (by rw [cj, cm]; omega) (fun x hx => ?_) hdd hloc hd (fun H1 locs1 p1 p2 p3 => ?_)
  · rcases ht with rfl | rfl | rfl <;> rfl
  · rcases ht with rfl | rfl | rfl <;> rfl
  · rcases ht with rfl | rfl | rfl <;> rfl
  · rw [cm] at hx
    rw [ci]
    have hy := hwa (i + x) (by omega)
    rcases ht with rfl | rfl | rfl
    · rfl
    · have e8 : b_b8 (w aa (i + x : Nat)) = w aa (i + x : Nat) := Int.bmod_eq_of_le (by have := hy.1; omega) (by have := hy.2; omega)
      show fits .byte (.int (Int32.ofInt (w aa (i + x : Nat)))) = true
      rw [← e8, ← b_i2b]
      exact pk_fb _
    · have e1 : w aa (i + x : Nat) = 0 ∨ w aa (i + x : Nat) = 1 := by have := hy.1; have := hy.2; omega
      show fits .boolean (.int (Int32.ofInt (w aa (i + x : Nat)))) = true
      rcases e1 with e1 | e1 <;> rw [e1] <;> rfl
  · rw [cm, cj, ci] at p1 p2
    have hfun : va_cpy (fun x : Nat => Int32.ofInt (w aa x)) (fun x : Nat => Int32.ofInt (w bb x)) i j m = fun x : Nat => Int32.ofInt (b_cp w aa i bb j m bb x) := by
      funext x
      unfold va_cpy b_cp
      by_cases hx : j ≤ x ∧ x < j + m
      · rw [if_pos hx, if_pos ⟨rfl, by omega, by omega⟩]
        show Int32.ofInt (w aa ((i + (x - j) : Nat) : Int)) = _
        rw [show ((i + (x - j) : Nat) : Int) = (i : Int) + ((x : Int) - (j : Int)) by omega]
      · rw [if_neg hx, if_neg (fun h => hx ⟨by omega, by omega⟩)]
    have hcp : ∀ o : Nat, o ≠ bb → ∀ x : Int, b_cp w aa i bb j m o x = w o x := fun o ho x => b_cp_ne (by omega)
    rw [hfun, b_ws_set' b1 (b_en_i _ b2) hcp] at p1 p2
    refine k E p e s mm args below meth c' H1 locs1 ad0 ad lsA hC (b_G_of_S hG hb hS p3) hb ha0 hn ⟨p1, p2, b_wf_set hR.2.2.1 ?_ hcp, hR.2.2.2.1, b_sc_of hR.2.2.2.2.1 (fun o x ho => b_cp_ne (by omega)), b_fin_set hR.2.2.2.2.2 (fun p hp _ => b_cp_ne (fun e => (b_nf_arr (f := p.2.1) b2 (by decide)) p hp ⟨e, rfl⟩))⟩ p3 hl hls (b_tl (b_tl (b_tl (b_tl (b_tl hst)))))
    rw [b_wfo_i b2]
    intro x hx
    unfold b_cp
    split
    · rename_i h
      have := hwa (i + (x - j)) (by omega)
      rw [show ((i + (x - j) : Nat) : Int) = (i : Int) + ((x : Int) - j) by omega] at this
      exact this
    · exact hwb x hx
theorem x_copyl (idx : Nat) {a b i j m : Int} {t NA NB : Nat} (hd : decode (bZ_M Z).2.1 pc = .ok (.invokestatic idx, 3)) (h1 : Cond.methodLink (bZ_M Z).1.cls idx arraycopyName ∈ lw_all) (h2 : Cond.native arraycopyName ∈ lw_all) (h3 : Cond.static arraycopyName ∈ lw_all) (h4 : Cond.initialized "java/lang/System" ∈ lw_all)
    (ha : b_is n a 2 t NA) (hb1 : b_is n b 2 t NB) (hab : a ≠ b) (ht : t = 3) (hi : 0 ≤ i) (hj : 0 ≤ j) (hm : 0 ≤ m) (hA : i + m ≤ NA) (hB : j + m ≤ NB) (hdd : 1 ≤ Z.1) (hr : Nat.ble (b_wds st) 8 = true) (hq : pc + 3 = q)
    (k : b_X Z n u v q ls st (b_cp w a i b j m)) : b_X Z n u v pc ls ((0, m) :: (0, j) :: (2, b) :: (0, i) :: (2, a) :: st) w := by
  subst hq
  obtain ⟨a0, a1, a2⟩ := ha
  obtain ⟨b0, b1, b2⟩ := hb1
  obtain ⟨aa, rfl⟩ : ∃ aa : Nat, a = aa := ⟨a.toNat, (Int.toNat_of_nonneg a0).symm⟩
  obtain ⟨bb, rfl⟩ : ∃ bb : Nat, b = bb := ⟨b.toNat, (Int.toNat_of_nonneg b0).symm⟩
  obtain ⟨i, rfl⟩ : ∃ i' : Nat, i = i' := ⟨i.toNat, (Int.toNat_of_nonneg hi).symm⟩
  obtain ⟨j, rfl⟩ : ∃ j' : Nat, j = j' := ⟨j.toNat, (Int.toNat_of_nonneg hj).symm⟩
  obtain ⟨m, rfl⟩ : ∃ m' : Nat, m = m' := ⟨m.toNat, (Int.toNat_of_nonneg hm).symm⟩
  rw [Int.toNat_natCast] at a1 a2 b1 b2
  intro E p e s mm args below meth c' H locs ad0 ad lsA hC hG hb ha0 hn hR hS hl hls hst
  have rm := b_ri (b_h0 hst)
  have rj := b_ri (b_h1 hst)
  have ri := b_ri (b_h1 (b_tl (b_tl hst)))
  have hata := b_ws_at (E := E) (ad := ad) (w := w) a1
  rw [b_en_l w a2] at hata
  have hatb := b_ws_at (E := E) (ad := ad) (w := w) b1
  rw [b_en_l w b2] at hatb
  have hneg : ∀ z : Int, 0 ≤ z → (-2147483648 ≤ z ∧ z ≤ 2147483647) → ¬ Int32.ofInt z < 0 := by
    intro z h0 hz
    rw [show (0 : Int32) = Int32.ofInt 0 from rfl, b_ltI hz (by decide)]
    omega
  have cm : (Int32.ofInt (m : Int)).toNatClampNeg = m := by rw [b_cl rm, Int.toNat_natCast]
  have cj : (Int32.ofInt (j : Int)).toNatClampNeg = j := by rw [b_cl rj, Int.toNat_natCast]
  have ci : (Int32.ofInt (i : Int)).toNatClampNeg = i := by rw [b_cl ri, Int.toNat_natCast]
  have hwa := hR.2.2.1 aa a1
  rw [b_wfo_l a2] at hwa
  have hwb := hR.2.2.1 bb b1
  rw [b_wfo_l b2] at hwb
  have hloc : ((st.map (b_vl E ad)).map fun v => v.category).sum + (nativeFrameWords "java/lang/System" "arraycopy" 5 + 11) ≤ (b_rm Z.1 Z.2.1 Z.2.2.1).locals := by
    rw [b_sum]
    have := Nat.le_of_ble_eq_true hr
    have h64 : 64 ≤ (b_rm Z.1 Z.2.1 Z.2.2.1).locals := by show 64 ≤ 64 * Z.1; omega
    have hnw : nativeFrameWords "java/lang/System" "arraycopy" 5 + 11 ≤ 40 := by decide
    omega
  rw [List.map_cons, List.map_cons, List.map_cons, List.map_cons, List.map_cons, b_vl2n, b_vl2n]
  refine va_copyl (ty := b_aty t) hC.1 hC.2.1 (by rw [hC.2.2.2.1]; exact hl.1.symm) hC.2.2.2.2.1 (hC.2.2.2.2.2.1 _ h1) (hC.2.2.2.2.2.1 _ h2) (hC.2.2.2.2.2.1 _ h3) (hC.2.2.2.2.2.1 _ h4) hG.1 hR.1 hR.2.1 hS aa bb t t hata hatb ?_ ?_ ?_ (hneg _ (by omega) ri) (hneg _ (by omega) rj) (hneg _ (by omega) rm) (by rw [ci, cm]; omega) (by rw [cj, cm]; omega) (fun x hx => ?_) hdd hloc hd (fun H1 locs1 p1 p2 p3 => ?_)
  · rw [ht]; rfl
  · rw [ht]; rfl
  · rw [ht]; rfl
  · rw [cm] at hx
    rw [ci]
    rw [ht]; rfl
  · rw [cm, cj, ci] at p1 p2
    have hfun : va_cpy (fun x : Nat => Int64.ofInt (w aa x)) (fun x : Nat => Int64.ofInt (w bb x)) i j m = fun x : Nat => Int64.ofInt (b_cp w aa i bb j m bb x) := by
      funext x
      unfold va_cpy b_cp
      by_cases hx : j ≤ x ∧ x < j + m
      · rw [if_pos hx, if_pos ⟨rfl, by omega, by omega⟩]
        show Int64.ofInt (w aa ((i + (x - j) : Nat) : Int)) = _
        rw [show ((i + (x - j) : Nat) : Int) = (i : Int) + ((x : Int) - (j : Int)) by omega]
      · rw [if_neg hx, if_neg (fun h => hx ⟨by omega, by omega⟩)]
    have hcp : ∀ o : Nat, o ≠ bb → ∀ x : Int, b_cp w aa i bb j m o x = w o x := fun o ho x => b_cp_ne (by omega)
    rw [hfun, b_ws_set' b1 (b_en_l _ b2) hcp] at p1 p2
    refine k E p e s mm args below meth c' H1 locs1 ad0 ad lsA hC (b_G_of_S hG hb hS p3) hb ha0 hn ⟨p1, p2, b_wf_set hR.2.2.1 ?_ hcp, hR.2.2.2.1, b_sc_of hR.2.2.2.2.1 (fun o x ho => b_cp_ne (by omega)), b_fin_set hR.2.2.2.2.2 (fun p hp _ => b_cp_ne (fun e => (b_nf_arr (f := p.2.1) b2 (by decide)) p hp ⟨e, rfl⟩))⟩ p3 hl hls (b_tl (b_tl (b_tl (b_tl (b_tl hst)))))
    rw [b_wfo_l b2]
    intro x hx
    unfold b_cp
    split
    · rename_i h
      have := hwa (i + (x - j)) (by omega)
      rw [show ((i + (x - j) : Nat) : Int) = (i : Int) + ((x : Int) - j) by omega] at this
      exact this
    · exact hwb x hx
end BridgeMisc
