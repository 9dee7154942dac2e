section BridgeK
/-- a call that makes nothing -/
def b_K (d : Nat) (M : bM) (args : List bV) (n : Nat) (w : bW) (Q : Int → bW → Prop) (X : String → bW → Prop) : Prop :=
  b_C d 0 0 M args n w (fun r n1 w1 => n1 = n ∧ Q r w1) (fun C n1 w1 => n1 = n ∧ X C w1)
abbrev b_Z (d : Nat) (M : bM) (n : Nat) (Q : Int → bW → Prop) (X : String → bW → Prop) : bZ := (d, 0, 0, M, n, fun r n1 w1 => n1 = n ∧ Q r w1, fun C n1 w1 => n1 = n ∧ X C w1)
/-- a walk that makes nothing -/
abbrev b_Y (d : Nat) (M : bM) (n : Nat) (Q : Int → bW → Prop) (X : String → bW → Prop) (pc : Nat) (ls st : List bV) (w : bW) : Prop := b_X (b_Z d M n Q X) n 0 0 pc ls st w
theorem k_mono {d n : Nat} {M : bM} {args : List bV} {w : bW} {Q Q' : Int → bW → Prop} {X : String → bW → Prop} (h : b_K d M args n w Q X) (f : ∀ r w', Q r w' → Q' r w') : b_K d M args n w Q' X :=
  c_mono h (fun r n' w' h => ⟨h.1, f r w' h.2⟩) (fun _ _ _ h => h)
theorem k_monoX {d n : Nat} {M : bM} {args : List bV} {w : bW} {Q Q' : Int → bW → Prop} {X X' : String → bW → Prop} (h : b_K d M args n w Q X) (f : ∀ r w', Q r w' → Q' r w') (g : ∀ C w', X C w' → X' C w') : b_K d M args n w Q' X' :=
  c_mono h (fun r n' w' h => ⟨h.1, f r w' h.2⟩) (fun C n' w' h => ⟨h.1, g C w' h.2⟩)
theorem k_deep {d d' n : Nat} {M : bM} {args : List bV} {w : bW} {Q : Int → bW → Prop} {X : String → bW → Prop} (h : b_K d M args n w Q X) (hd : d ≤ d') : b_K d' M args n w Q X := c_deep h hd
theorem k_wf {d n : Nat} {M : bM} {args : List bV} {w : bW} {Q : Int → bW → Prop} {X : String → bW → Prop} (k : b_wf n w → (∀ x ∈ args, b_okv n x) → n ≤ 255 → b_fin n w → b_K d M args n w Q X) : b_K d M args n w Q X := c_wf k
theorem k_ok {d n : Nat} {M : bM} {args : List bV} {w : bW} {Q : Int → bW → Prop} {X : String → bW → Prop} (h : b_K d M args n w (fun r w' => b_okv n (b_rtt M.2.2.2.1, r) → b_wf n w' → b_fin n w' → Q r w') X) : b_K d M args n w Q X :=
  c_ok (c_mono h (fun r n' w' h a b c => ⟨h.1, h.2 (by rw [← h.1]; exact a) (by rw [← h.1]; exact b) (by rw [← h.1]; exact c)⟩) (fun _ _ _ h => h))
theorem k_of {d n : Nat} {M : bM} {args : List bV} {w : bW} {Q : Int → bW → Prop} {X : String → bW → Prop} (hy : plainName M.1.cls = true) (hh : M.2.2.2.2 = []) (h9 : args.all (fun x => !(Nat.beq x.1 9)) = true) (hw : Nat.ble (b_wds args) M.2.2.1 = true)
    {ls : List bV} (hls : b_ent args M.2.2.1 = ls) (k : b_Y d M n Q X 0 ls [] w) : b_K d M args n w Q X := c_of hy hh h9 hw hls k
/-- the index i is within the row o -/
def b_ai (n : Nat) (o : Int) (g t : Nat) (i : Int) : Prop := ∃ N : Nat, b_is n o g t N ∧ 0 ≤ i ∧ i < N
theorem b_ite {c : Prop} {_ : Decidable c} {A B A' B' : Prop} (h : if c then A else B) (f : c → A → A') (g : ¬ c → B → B') : if c then A' else B' := by
  by_cases hc : c
  · rw [if_pos hc] at h ⊢; exact f hc h
  · rw [if_neg hc] at h ⊢; exact g hc h
theorem b_itc {c : Prop} {_ : Decidable c} {A B P : Prop} (h : if c then A else B) (f : c → A → P) (g : ¬ c → B → P) : P := by
  by_cases hc : c
  · rw [if_pos hc] at h; exact f hc h
  · rw [if_neg hc] at h; exact g hc h
/-- fewer locals are known -/
def b_fg : List bV → List bV → Prop
  | [], [] => True
  | a :: r, b :: s => (a = (9, 0) ∨ a = b) ∧ b_fg r s
  | _, _ => False
theorem b_fg_at : ∀ (l' l : List bV) (i : Nat) (x : bV), b_fg l' l → l'[i]? = some x → x.1 ≠ 9 → l[i]? = some x := by
  intro l'
  induction l' with
  | nil => intro l i x _ h; simp at h
  | cons a r ih =>
    intro l i x h hx h9
    cases l with
    | nil => exact absurd h (by simp [b_fg])
    | cons b s =>
      obtain ⟨h1, h2⟩ := h
      cases i with
      | zero =>
        simp at hx
        subst hx
        rcases h1 with e | e
        · exact absurd (by rw [e]) h9
        · rw [e]; rfl
      | succ i =>
        simp at hx ⊢
        exact ih s i x h2 hx h9
theorem x_fg {Z : bZ} {n u v pc : Nat} {ls ls' st : List bV} {w : bW} (h : b_fg ls' ls) (k : b_X Z n u v pc ls' st w) : b_X Z n u v pc ls st w := by
  intro E p e s m args below meth c' H locs ad0 ad lsA hC hG hb ha0 hn hR hS hl hls hst
  refine k E p e s m args below meth c' H locs ad0 ad lsA hC hG hb ha0 hn hR hS (b_has_mono hl (fun q hq => ?_)) (fun x hx => ?_) hst
  · obtain ⟨j, y, g1, g2, g3⟩ := (b_lvs_mem _ 0).mp hq
    exact (b_lvs_mem _ 0).mpr ⟨j, y, b_fg_at _ _ _ _ h g1 g2, g2, g3⟩
  · obtain ⟨i, hi⟩ := List.getElem?_of_mem hx
    by_cases h9 : x.1 = 9
    · exact ⟨fun e => absurd (h9.symm.trans e) (by decide), fun e => absurd (h9.symm.trans e) (by decide), fun e => absurd (h9.symm.trans e) (by decide)⟩
    · exact hls x (List.mem_of_getElem? (b_fg_at _ _ _ _ h hi h9))
/-- the world by another name -/
theorem x_w {Z : bZ} {n u v pc : Nat} {ls st : List bV} {w w' : bW} (h : w = w') (k : b_X Z n u v pc ls st w') : b_X Z n u v pc ls st w := h ▸ k
variable {d n pc q : Nat} {M0 : bM} {Q : Int → bW → Prop} {X : String → bW → Prop} {ls st : List bV} {w : bW}
/-- reading a field, by what it is known to hold -/
theorem y_get (idx f : Nat) {c N t : Nat} {C : String} {T : u_T} {o z : Int} (hd : decode M0.2.1 pc = .ok (.getfield idx, 3)) (ho : b_is n o 0 c N)
    (hc : vwCl[c]? = some (C, T, N)) (hin : ∀ x ∈ u_ws C T N, x ∈ lw_all) (hlk : Cond.fieldLink M0.1.cls idx C (T f).2.1 (T f).2.2.1 ∈ lw_all) (hT : (T f).1 = C) (hf : Nat.blt f N = true) (ht : b_ft c f = t) (hz : w o f = z)
    (hq : pc + 3 = q) (k : b_Y d M0 n Q X q ls ((t, z) :: st) w) : b_Y d M0 n Q X pc ls ((2, o) :: st) w := x_get (Z := b_Z d M0 n Q X) idx f hd ho hc hin hlk hT hf ht hq (by rw [hz]; exact k)
theorem y_iald {o i z : Int} (hd : decode M0.2.1 pc = .ok (.iaload, 1)) (h : b_ai n o 1 0 i) (hz : w o i = z) (hq : pc + 1 = q) (k : b_Y d M0 n Q X q ls ((0, z) :: st) w) : b_Y d M0 n Q X pc ls ((0, i) :: (2, o) :: st) w := by
  obtain ⟨N, h1, h2⟩ := h
  exact x_iald (Z := b_Z d M0 n Q X) hd h1 h2 hq (by rw [hz]; exact k)
theorem y_bald {o i z : Int} (hd : decode M0.2.1 pc = .ok (.baload, 1)) (h : b_ai n o 1 1 i) (hz : w o i = z) (hq : pc + 1 = q) (k : b_Y d M0 n Q X q ls ((0, z) :: st) w) : b_Y d M0 n Q X pc ls ((0, i) :: (2, o) :: st) w := by
  obtain ⟨N, h1, h2⟩ := h
  exact x_bald (Z := b_Z d M0 n Q X) hd h1 h2 hq (by rw [hz]; exact k)
theorem y_zald {o i z : Int} (hd : decode M0.2.1 pc = .ok (.baload, 1)) (h : b_ai n o 1 2 i) (hz : w o i = z) (hq : pc + 1 = q) (k : b_Y d M0 n Q X q ls ((0, z) :: st) w) : b_Y d M0 n Q X pc ls ((0, i) :: (2, o) :: st) w := by
  obtain ⟨N, h1, h2⟩ := h
  exact x_zald (Z := b_Z d M0 n Q X) hd h1 h2 hq (by rw [hz]; exact k)
theorem y_sald {o i z : Int} (hd : decode M0.2.1 pc = .ok (.saload, 1)) (h : b_ai n o 1 4 i) (hz : w o i = z) (hq : pc + 1 = q) (k : b_Y d M0 n Q X q ls ((0, z) :: st) w) : b_Y d M0 n Q X pc ls ((0, i) :: (2, o) :: st) w := by
  obtain ⟨N, h1, h2⟩ := h
  exact x_sald (Z := b_Z d M0 n Q X) hd h1 h2 hq (by rw [hz]; exact k)
theorem y_lald {o i z : Int} (hd : decode M0.2.1 pc = .ok (.laload, 1)) (h : b_ai n o 2 3 i) (hz : w o i = z) (hq : pc + 1 = q) (k : b_Y d M0 n Q X q ls ((1, z) :: st) w) : b_Y d M0 n Q X pc ls ((0, i) :: (2, o) :: st) w := by
  obtain ⟨N, h1, h2⟩ := h
  exact x_lald (Z := b_Z d M0 n Q X) hd h1 h2 hq (by rw [hz]; exact k)
theorem y_iast {o i x : Int} (hd : decode M0.2.1 pc = .ok (.iastore, 1)) (h : b_ai n o 1 0 i) {x' : Int} (hx' : x = x') (hq : pc + 1 = q) (k : b_Y d M0 n Q X q ls st (b_up w o i x')) : b_Y d M0 n Q X pc ls ((0, x) :: (0, i) :: (2, o) :: st) w := by
  obtain ⟨N, h1, h2⟩ := h
  subst hx'
  exact x_iast (Z := b_Z d M0 n Q X) hd h1 h2 hq k
theorem y_bast {o i x : Int} (hd : decode M0.2.1 pc = .ok (.bastore, 1)) (h : b_ai n o 1 1 i) {x' : Int} (hx' : (b_b8 x) = x') (hq : pc + 1 = q) (k : b_Y d M0 n Q X q ls st (b_up w o i x')) : b_Y d M0 n Q X pc ls ((0, x) :: (0, i) :: (2, o) :: st) w := by
  obtain ⟨N, h1, h2⟩ := h
  subst hx'
  exact x_bast (Z := b_Z d M0 n Q X) hd h1 h2 hq k
theorem y_zast {o i x : Int} (hd : decode M0.2.1 pc = .ok (.bastore, 1)) (h : b_ai n o 1 2 i) {x' : Int} (hx' : (x % 2) = x') (hq : pc + 1 = q) (k : b_Y d M0 n Q X q ls st (b_up w o i x')) : b_Y d M0 n Q X pc ls ((0, x) :: (0, i) :: (2, o) :: st) w := by
  obtain ⟨N, h1, h2⟩ := h
  subst hx'
  exact x_zast (Z := b_Z d M0 n Q X) hd h1 h2 hq k
theorem y_sast {o i x : Int} (hd : decode M0.2.1 pc = .ok (.sastore, 1)) (h : b_ai n o 1 4 i) {x' : Int} (hx' : (b_s16 x) = x') (hq : pc + 1 = q) (k : b_Y d M0 n Q X q ls st (b_up w o i x')) : b_Y d M0 n Q X pc ls ((0, x) :: (0, i) :: (2, o) :: st) w := by
  obtain ⟨N, h1, h2⟩ := h
  subst hx'
  exact x_sast (Z := b_Z d M0 n Q X) hd h1 h2 hq k
theorem y_last {o i x : Int} (hd : decode M0.2.1 pc = .ok (.lastore, 1)) (h : b_ai n o 2 3 i) {x' : Int} (hx' : x = x') (hq : pc + 1 = q) (k : b_Y d M0 n Q X q ls st (b_up w o i x')) : b_Y d M0 n Q X pc ls ((1, x) :: (0, i) :: (2, o) :: st) w := by
  obtain ⟨N, h1, h2⟩ := h
  subst hx'
  exact x_last (Z := b_Z d M0 n Q X) hd h1 h2 hq k
theorem b_res_s {r : Option FieldType} {x : Int} {st : List bV} {t : Nat} (h : b_rtt r = t) (hs : r.isSome = true) : b_res r x st = (t, x) :: st := by
  cases r with
  | none => cases hs
  | some y => rw [← h]; rfl
theorem b_res_n {r : Option FieldType} {x : Int} {st : List bV} (h : r = none) : b_res r x st = st := by rw [h]; rfl
theorem y_Vi (idx : Nat) {M : bM} {c N : Nat} {C : String} {T : u_T} {o : Int} {As stk : List bV} (hd : decode M0.2.1 pc = .ok (.invokevirtual idx, 3)) (ho : b_is n o 0 c N) (hc : vwCl[c]? = some (C, T, N))
    (h1 : Cond.methodLink M0.1.cls idx M.1 ∈ lw_all) (h2 : Cond.instanceMethod M.1 ∈ lw_all) (h3 : Cond.selects C M.1 M.1 ∈ lw_all) (h4 : Cond.initialized C ∈ lw_all) (h5 : Cond.code M.1 M.2.1 M.2.2.1 M.2.2.2.1 ∈ lw_all)
    (hC : M.1.cls = C) (hm : M.1.cls ≠ "java/lang/invoke/MethodHandle" ∧ M.1.cls ≠ "java/lang/invoke/VarHandle" ∧ (parseMethodDescriptor M.1.desc).map (fun d => d.parameters.length) = some As.length)
    (hh : M.2.2.2.2 = []) (hh' : M0.2.2.2.2 = []) (hL : Nat.ble M.2.2.1 45 = true) (h0 : b_rtt M.2.2.2.1 = 0) (h0s : M.2.2.2.1.isSome = true) (hs : As.reverse ++ (2, o) :: st = stk) (hr : Nat.ble (b_wds st) 8 = true) (hq : pc + 3 = q)
    (k : b_K d M ((2, o) :: As) n w (fun r w1 => b_Y (d + 1) M0 n Q X q ls ((0, r) :: st) w1) X) : b_Y (d + 1) M0 n Q X pc ls stk w := by
  refine x_invV (Z := b_Z (d + 1) M0 n Q X) (mc := 0) (ms := 0) idx hd ho hc h1 h2 h3 h4 h5 ⟨hC, hm⟩ hh hh' rfl hL hs hr (Nat.le_refl 0) (Nat.le_refl 0) hq (fun C n' w' h => h) (c_mono k (fun r n' w' h => ?_) (fun _ _ _ h => h))
  obtain ⟨rfl, h⟩ := h
  rw [b_res_s h0 h0s]
  exact h
theorem y_Si (idx : Nat) {M : bM} {As stk : List bV} (hd : decode M0.2.1 pc = .ok (.invokestatic idx, 3))
    (h1 : Cond.methodLink M0.1.cls idx M.1 ∈ lw_all) (h2 : Cond.static M.1 ∈ lw_all) (h3 : Cond.initialized M.1.cls ∈ lw_all) (h5 : Cond.code M.1 M.2.1 M.2.2.1 M.2.2.2.1 ∈ lw_all)
    (hm : M.1.cls ≠ "java/lang/invoke/MethodHandle" ∧ M.1.cls ≠ "java/lang/invoke/VarHandle" ∧ (parseMethodDescriptor M.1.desc).map (fun d => d.parameters.length) = some As.length)
    (hh : M.2.2.2.2 = []) (hh' : M0.2.2.2.2 = []) (hL : Nat.ble M.2.2.1 45 = true) (h0 : b_rtt M.2.2.2.1 = 0) (h0s : M.2.2.2.1.isSome = true) (hs : As.reverse ++ st = stk) (hr : Nat.ble (b_wds st) 8 = true) (hq : pc + 3 = q)
    (k : b_K d M As n w (fun r w1 => b_Y (d + 1) M0 n Q X q ls ((0, r) :: st) w1) X) : b_Y (d + 1) M0 n Q X pc ls stk w := by
  refine x_invS (Z := b_Z (d + 1) M0 n Q X) (mc := 0) (ms := 0) idx hd h1 h2 h3 h5 hm hh hh' rfl hL hs hr (Nat.le_refl 0) (Nat.le_refl 0) hq (fun C n' w' h => h) (c_mono k (fun r n' w' h => ?_) (fun _ _ _ h => h))
  obtain ⟨rfl, h⟩ := h
  rw [b_res_s h0 h0s]
  exact h
theorem y_Ti (idx : Nat) {M : bM} {i : Int} {As stk : List bV} (hd : decode M0.2.1 pc = .ok (.invokevirtual idx, 3)) (hi : 0 ≤ i ∧ i < 6)
    (h1 : Cond.methodLink M0.1.cls idx M.1 ∈ lw_all) (h2 : Cond.instanceMethod M.1 ∈ lw_all) (h3 : Cond.selects "java/lang/String" M.1 M.1 ∈ lw_all) (h4 : Cond.initialized "java/lang/String" ∈ lw_all) (h5 : Cond.code M.1 M.2.1 M.2.2.1 M.2.2.2.1 ∈ lw_all)
    (hC : M.1.cls = "java/lang/String") (hm : M.1.cls ≠ "java/lang/invoke/MethodHandle" ∧ M.1.cls ≠ "java/lang/invoke/VarHandle" ∧ (parseMethodDescriptor M.1.desc).map (fun d => d.parameters.length) = some As.length)
    (hh : M.2.2.2.2 = []) (hh' : M0.2.2.2.2 = []) (hL : Nat.ble M.2.2.1 45 = true) (h0 : b_rtt M.2.2.2.1 = 0) (h0s : M.2.2.2.1.isSome = true) (hs : As.reverse ++ (4, i) :: st = stk) (hr : Nat.ble (b_wds st) 8 = true) (hq : pc + 3 = q)
    (k : b_K d M ((4, i) :: As) n w (fun r w1 => b_Y (d + 1) M0 n Q X q ls ((0, r) :: st) w1) X) : b_Y (d + 1) M0 n Q X pc ls stk w := by
  refine x_invT (Z := b_Z (d + 1) M0 n Q X) idx hd hi h1 h2 h3 h4 h5 ⟨hC, hm⟩ hh hh' rfl hL hs hr (Nat.le_refl 0) (Nat.le_refl 0) hq (fun C n' w' h => h) (c_mono k (fun r n' w' h => ?_) (fun _ _ _ h => h))
  obtain ⟨rfl, h⟩ := h
  rw [b_res_s h0 h0s]
  exact h
theorem y_Vl (idx : Nat) {M : bM} {c N : Nat} {C : String} {T : u_T} {o : Int} {As stk : List bV} (hd : decode M0.2.1 pc = .ok (.invokevirtual idx, 3)) (ho : b_is n o 0 c N) (hc : vwCl[c]? = some (C, T, N))
    (h1 : Cond.methodLink M0.1.cls idx M.1 ∈ lw_all) (h2 : Cond.instanceMethod M.1 ∈ lw_all) (h3 : Cond.selects C M.1 M.1 ∈ lw_all) (h4 : Cond.initialized C ∈ lw_all) (h5 : Cond.code M.1 M.2.1 M.2.2.1 M.2.2.2.1 ∈ lw_all)
    (hC : M.1.cls = C) (hm : M.1.cls ≠ "java/lang/invoke/MethodHandle" ∧ M.1.cls ≠ "java/lang/invoke/VarHandle" ∧ (parseMethodDescriptor M.1.desc).map (fun d => d.parameters.length) = some As.length)
    (hh : M.2.2.2.2 = []) (hh' : M0.2.2.2.2 = []) (hL : Nat.ble M.2.2.1 45 = true) (h0 : b_rtt M.2.2.2.1 = 1) (h0s : M.2.2.2.1.isSome = true) (hs : As.reverse ++ (2, o) :: st = stk) (hr : Nat.ble (b_wds st) 8 = true) (hq : pc + 3 = q)
    (k : b_K d M ((2, o) :: As) n w (fun r w1 => b_Y (d + 1) M0 n Q X q ls ((1, r) :: st) w1) X) : b_Y (d + 1) M0 n Q X pc ls stk w := by
  refine x_invV (Z := b_Z (d + 1) M0 n Q X) (mc := 0) (ms := 0) idx hd ho hc h1 h2 h3 h4 h5 ⟨hC, hm⟩ hh hh' rfl hL hs hr (Nat.le_refl 0) (Nat.le_refl 0) hq (fun C n' w' h => h) (c_mono k (fun r n' w' h => ?_) (fun _ _ _ h => h))
  obtain ⟨rfl, h⟩ := h
  rw [b_res_s h0 h0s]
  exact h
theorem y_Sl (idx : Nat) {M : bM} {As stk : List bV} (hd : decode M0.2.1 pc = .ok (.invokestatic idx, 3))
    (h1 : Cond.methodLink M0.1.cls idx M.1 ∈ lw_all) (h2 : Cond.static M.1 ∈ lw_all) (h3 : Cond.initialized M.1.cls ∈ lw_all) (h5 : Cond.code M.1 M.2.1 M.2.2.1 M.2.2.2.1 ∈ lw_all)
    (hm : M.1.cls ≠ "java/lang/invoke/MethodHandle" ∧ M.1.cls ≠ "java/lang/invoke/VarHandle" ∧ (parseMethodDescriptor M.1.desc).map (fun d => d.parameters.length) = some As.length)
    (hh : M.2.2.2.2 = []) (hh' : M0.2.2.2.2 = []) (hL : Nat.ble M.2.2.1 45 = true) (h0 : b_rtt M.2.2.2.1 = 1) (h0s : M.2.2.2.1.isSome = true) (hs : As.reverse ++ st = stk) (hr : Nat.ble (b_wds st) 8 = true) (hq : pc + 3 = q)
    (k : b_K d M As n w (fun r w1 => b_Y (d + 1) M0 n Q X q ls ((1, r) :: st) w1) X) : b_Y (d + 1) M0 n Q X pc ls stk w := by
  refine x_invS (Z := b_Z (d + 1) M0 n Q X) (mc := 0) (ms := 0) idx hd h1 h2 h3 h5 hm hh hh' rfl hL hs hr (Nat.le_refl 0) (Nat.le_refl 0) hq (fun C n' w' h => h) (c_mono k (fun r n' w' h => ?_) (fun _ _ _ h => h))
  obtain ⟨rfl, h⟩ := h
  rw [b_res_s h0 h0s]
  exact h
theorem y_Tl (idx : Nat) {M : bM} {i : Int} {As stk : List bV} (hd : decode M0.2.1 pc = .ok (.invokevirtual idx, 3)) (hi : 0 ≤ i ∧ i < 6)
    (h1 : Cond.methodLink M0.1.cls idx M.1 ∈ lw_all) (h2 : Cond.instanceMethod M.1 ∈ lw_all) (h3 : Cond.selects "java/lang/String" M.1 M.1 ∈ lw_all) (h4 : Cond.initialized "java/lang/String" ∈ lw_all) (h5 : Cond.code M.1 M.2.1 M.2.2.1 M.2.2.2.1 ∈ lw_all)
    (hC : M.1.cls = "java/lang/String") (hm : M.1.cls ≠ "java/lang/invoke/MethodHandle" ∧ M.1.cls ≠ "java/lang/invoke/VarHandle" ∧ (parseMethodDescriptor M.1.desc).map (fun d => d.parameters.length) = some As.length)
    (hh : M.2.2.2.2 = []) (hh' : M0.2.2.2.2 = []) (hL : Nat.ble M.2.2.1 45 = true) (h0 : b_rtt M.2.2.2.1 = 1) (h0s : M.2.2.2.1.isSome = true) (hs : As.reverse ++ (4, i) :: st = stk) (hr : Nat.ble (b_wds st) 8 = true) (hq : pc + 3 = q)
    (k : b_K d M ((4, i) :: As) n w (fun r w1 => b_Y (d + 1) M0 n Q X q ls ((1, r) :: st) w1) X) : b_Y (d + 1) M0 n Q X pc ls stk w := by
  refine x_invT (Z := b_Z (d + 1) M0 n Q X) idx hd hi h1 h2 h3 h4 h5 ⟨hC, hm⟩ hh hh' rfl hL hs hr (Nat.le_refl 0) (Nat.le_refl 0) hq (fun C n' w' h => h) (c_mono k (fun r n' w' h => ?_) (fun _ _ _ h => h))
  obtain ⟨rfl, h⟩ := h
  rw [b_res_s h0 h0s]
  exact h
theorem y_Vr (idx : Nat) {M : bM} {c N : Nat} {C : String} {T : u_T} {o : Int} {As stk : List bV} (hd : decode M0.2.1 pc = .ok (.invokevirtual idx, 3)) (ho : b_is n o 0 c N) (hc : vwCl[c]? = some (C, T, N))
    (h1 : Cond.methodLink M0.1.cls idx M.1 ∈ lw_all) (h2 : Cond.instanceMethod M.1 ∈ lw_all) (h3 : Cond.selects C M.1 M.1 ∈ lw_all) (h4 : Cond.initialized C ∈ lw_all) (h5 : Cond.code M.1 M.2.1 M.2.2.1 M.2.2.2.1 ∈ lw_all)
    (hC : M.1.cls = C) (hm : M.1.cls ≠ "java/lang/invoke/MethodHandle" ∧ M.1.cls ≠ "java/lang/invoke/VarHandle" ∧ (parseMethodDescriptor M.1.desc).map (fun d => d.parameters.length) = some As.length)
    (hh : M.2.2.2.2 = []) (hh' : M0.2.2.2.2 = []) (hL : Nat.ble M.2.2.1 45 = true) (h0 : b_rtt M.2.2.2.1 = 2) (h0s : M.2.2.2.1.isSome = true) (hs : As.reverse ++ (2, o) :: st = stk) (hr : Nat.ble (b_wds st) 8 = true) (hq : pc + 3 = q)
    (k : b_K d M ((2, o) :: As) n w (fun r w1 => b_Y (d + 1) M0 n Q X q ls ((2, r) :: st) w1) X) : b_Y (d + 1) M0 n Q X pc ls stk w := by
  refine x_invV (Z := b_Z (d + 1) M0 n Q X) (mc := 0) (ms := 0) idx hd ho hc h1 h2 h3 h4 h5 ⟨hC, hm⟩ hh hh' rfl hL hs hr (Nat.le_refl 0) (Nat.le_refl 0) hq (fun C n' w' h => h) (c_mono k (fun r n' w' h => ?_) (fun _ _ _ h => h))
  obtain ⟨rfl, h⟩ := h
  rw [b_res_s h0 h0s]
  exact h
theorem y_Sr (idx : Nat) {M : bM} {As stk : List bV} (hd : decode M0.2.1 pc = .ok (.invokestatic idx, 3))
    (h1 : Cond.methodLink M0.1.cls idx M.1 ∈ lw_all) (h2 : Cond.static M.1 ∈ lw_all) (h3 : Cond.initialized M.1.cls ∈ lw_all) (h5 : Cond.code M.1 M.2.1 M.2.2.1 M.2.2.2.1 ∈ lw_all)
    (hm : M.1.cls ≠ "java/lang/invoke/MethodHandle" ∧ M.1.cls ≠ "java/lang/invoke/VarHandle" ∧ (parseMethodDescriptor M.1.desc).map (fun d => d.parameters.length) = some As.length)
    (hh : M.2.2.2.2 = []) (hh' : M0.2.2.2.2 = []) (hL : Nat.ble M.2.2.1 45 = true) (h0 : b_rtt M.2.2.2.1 = 2) (h0s : M.2.2.2.1.isSome = true) (hs : As.reverse ++ st = stk) (hr : Nat.ble (b_wds st) 8 = true) (hq : pc + 3 = q)
    (k : b_K d M As n w (fun r w1 => b_Y (d + 1) M0 n Q X q ls ((2, r) :: st) w1) X) : b_Y (d + 1) M0 n Q X pc ls stk w := by
  refine x_invS (Z := b_Z (d + 1) M0 n Q X) (mc := 0) (ms := 0) idx hd h1 h2 h3 h5 hm hh hh' rfl hL hs hr (Nat.le_refl 0) (Nat.le_refl 0) hq (fun C n' w' h => h) (c_mono k (fun r n' w' h => ?_) (fun _ _ _ h => h))
  obtain ⟨rfl, h⟩ := h
  rw [b_res_s h0 h0s]
  exact h
theorem y_Tr (idx : Nat) {M : bM} {i : Int} {As stk : List bV} (hd : decode M0.2.1 pc = .ok (.invokevirtual idx, 3)) (hi : 0 ≤ i ∧ i < 6)
    (h1 : Cond.methodLink M0.1.cls idx M.1 ∈ lw_all) (h2 : Cond.instanceMethod M.1 ∈ lw_all) (h3 : Cond.selects "java/lang/String" M.1 M.1 ∈ lw_all) (h4 : Cond.initialized "java/lang/String" ∈ lw_all) (h5 : Cond.code M.1 M.2.1 M.2.2.1 M.2.2.2.1 ∈ lw_all)
    (hC : M.1.cls = "java/lang/String") (hm : M.1.cls ≠ "java/lang/invoke/MethodHandle" ∧ M.1.cls ≠ "java/lang/invoke/VarHandle" ∧ (parseMethodDescriptor M.1.desc).map (fun d => d.parameters.length) = some As.length)
    (hh : M.2.2.2.2 = []) (hh' : M0.2.2.2.2 = []) (hL : Nat.ble M.2.2.1 45 = true) (h0 : b_rtt M.2.2.2.1 = 2) (h0s : M.2.2.2.1.isSome = true) (hs : As.reverse ++ (4, i) :: st = stk) (hr : Nat.ble (b_wds st) 8 = true) (hq : pc + 3 = q)
    (k : b_K d M ((4, i) :: As) n w (fun r w1 => b_Y (d + 1) M0 n Q X q ls ((2, r) :: st) w1) X) : b_Y (d + 1) M0 n Q X pc ls stk w := by
  refine x_invT (Z := b_Z (d + 1) M0 n Q X) idx hd hi h1 h2 h3 h4 h5 ⟨hC, hm⟩ hh hh' rfl hL hs hr (Nat.le_refl 0) (Nat.le_refl 0) hq (fun C n' w' h => h) (c_mono k (fun r n' w' h => ?_) (fun _ _ _ h => h))
  obtain ⟨rfl, h⟩ := h
  rw [b_res_s h0 h0s]
  exact h
theorem y_Vv (idx : Nat) {M : bM} {c N : Nat} {C : String} {T : u_T} {o : Int} {As stk : List bV} (hd : decode M0.2.1 pc = .ok (.invokevirtual idx, 3)) (ho : b_is n o 0 c N) (hc : vwCl[c]? = some (C, T, N))
    (h1 : Cond.methodLink M0.1.cls idx M.1 ∈ lw_all) (h2 : Cond.instanceMethod M.1 ∈ lw_all) (h3 : Cond.selects C M.1 M.1 ∈ lw_all) (h4 : Cond.initialized C ∈ lw_all) (h5 : Cond.code M.1 M.2.1 M.2.2.1 M.2.2.2.1 ∈ lw_all)
    (hC : M.1.cls = C) (hm : M.1.cls ≠ "java/lang/invoke/MethodHandle" ∧ M.1.cls ≠ "java/lang/invoke/VarHandle" ∧ (parseMethodDescriptor M.1.desc).map (fun d => d.parameters.length) = some As.length)
    (hh : M.2.2.2.2 = []) (hh' : M0.2.2.2.2 = []) (hL : Nat.ble M.2.2.1 45 = true) (h0 : M.2.2.2.1 = none) (hs : As.reverse ++ (2, o) :: st = stk) (hr : Nat.ble (b_wds st) 8 = true) (hq : pc + 3 = q)
    (k : b_K d M ((2, o) :: As) n w (fun r w1 => b_Y (d + 1) M0 n Q X q ls (st) w1) X) : b_Y (d + 1) M0 n Q X pc ls stk w := by
  refine x_invV (Z := b_Z (d + 1) M0 n Q X) (mc := 0) (ms := 0) idx hd ho hc h1 h2 h3 h4 h5 ⟨hC, hm⟩ hh hh' rfl hL hs hr (Nat.le_refl 0) (Nat.le_refl 0) hq (fun C n' w' h => h) (c_mono k (fun r n' w' h => ?_) (fun _ _ _ h => h))
  obtain ⟨rfl, h⟩ := h
  rw [b_res_n h0]
  exact h
theorem y_Sv (idx : Nat) {M : bM} {As stk : List bV} (hd : decode M0.2.1 pc = .ok (.invokestatic idx, 3))
    (h1 : Cond.methodLink M0.1.cls idx M.1 ∈ lw_all) (h2 : Cond.static M.1 ∈ lw_all) (h3 : Cond.initialized M.1.cls ∈ lw_all) (h5 : Cond.code M.1 M.2.1 M.2.2.1 M.2.2.2.1 ∈ lw_all)
    (hm : M.1.cls ≠ "java/lang/invoke/MethodHandle" ∧ M.1.cls ≠ "java/lang/invoke/VarHandle" ∧ (parseMethodDescriptor M.1.desc).map (fun d => d.parameters.length) = some As.length)
    (hh : M.2.2.2.2 = []) (hh' : M0.2.2.2.2 = []) (hL : Nat.ble M.2.2.1 45 = true) (h0 : M.2.2.2.1 = none) (hs : As.reverse ++ st = stk) (hr : Nat.ble (b_wds st) 8 = true) (hq : pc + 3 = q)
    (k : b_K d M As n w (fun r w1 => b_Y (d + 1) M0 n Q X q ls (st) w1) X) : b_Y (d + 1) M0 n Q X pc ls stk w := by
  refine x_invS (Z := b_Z (d + 1) M0 n Q X) (mc := 0) (ms := 0) idx hd h1 h2 h3 h5 hm hh hh' rfl hL hs hr (Nat.le_refl 0) (Nat.le_refl 0) hq (fun C n' w' h => h) (c_mono k (fun r n' w' h => ?_) (fun _ _ _ h => h))
  obtain ⟨rfl, h⟩ := h
  rw [b_res_n h0]
  exact h
theorem y_Tv (idx : Nat) {M : bM} {i : Int} {As stk : List bV} (hd : decode M0.2.1 pc = .ok (.invokevirtual idx, 3)) (hi : 0 ≤ i ∧ i < 6)
    (h1 : Cond.methodLink M0.1.cls idx M.1 ∈ lw_all) (h2 : Cond.instanceMethod M.1 ∈ lw_all) (h3 : Cond.selects "java/lang/String" M.1 M.1 ∈ lw_all) (h4 : Cond.initialized "java/lang/String" ∈ lw_all) (h5 : Cond.code M.1 M.2.1 M.2.2.1 M.2.2.2.1 ∈ lw_all)
    (hC : M.1.cls = "java/lang/String") (hm : M.1.cls ≠ "java/lang/invoke/MethodHandle" ∧ M.1.cls ≠ "java/lang/invoke/VarHandle" ∧ (parseMethodDescriptor M.1.desc).map (fun d => d.parameters.length) = some As.length)
    (hh : M.2.2.2.2 = []) (hh' : M0.2.2.2.2 = []) (hL : Nat.ble M.2.2.1 45 = true) (h0 : M.2.2.2.1 = none) (hs : As.reverse ++ (4, i) :: st = stk) (hr : Nat.ble (b_wds st) 8 = true) (hq : pc + 3 = q)
    (k : b_K d M ((4, i) :: As) n w (fun r w1 => b_Y (d + 1) M0 n Q X q ls (st) w1) X) : b_Y (d + 1) M0 n Q X pc ls stk w := by
  refine x_invT (Z := b_Z (d + 1) M0 n Q X) idx hd hi h1 h2 h3 h4 h5 ⟨hC, hm⟩ hh hh' rfl hL hs hr (Nat.le_refl 0) (Nat.le_refl 0) hq (fun C n' w' h => h) (c_mono k (fun r n' w' h => ?_) (fun _ _ _ h => h))
  obtain ⟨rfl, h⟩ := h
  rw [b_res_n h0]
  exact h
theorem y_iret {x : Int} (hd : decode M0.2.1 pc = .ok (.ireturn, 1)) (hr : M0.2.2.2.1 = some .int) (k : Q x w) : b_Y d M0 n Q X pc ls [(0, x)] w := x_iret (Z := b_Z d M0 n Q X) hd hr (Nat.le_refl 0) (Nat.le_refl 0) ⟨rfl, k⟩
theorem y_zret {x : Int} (hd : decode M0.2.1 pc = .ok (.ireturn, 1)) (hr : M0.2.2.2.1 = some .boolean) (hx : x = 0 ∨ x = 1) (k : Q x w) : b_Y d M0 n Q X pc ls [(0, x)] w := x_zret (Z := b_Z d M0 n Q X) hd hr hx (Nat.le_refl 0) (Nat.le_refl 0) ⟨rfl, k⟩
theorem y_cret {x : Int} (hd : decode M0.2.1 pc = .ok (.ireturn, 1)) (hr : M0.2.2.2.1 = some .char) (hx : 0 ≤ x ∧ x ≤ 65535) (k : Q x w) : b_Y d M0 n Q X pc ls [(0, x)] w := x_cret (Z := b_Z d M0 n Q X) hd hr hx (Nat.le_refl 0) (Nat.le_refl 0) ⟨rfl, k⟩
theorem y_bret {x : Int} (hd : decode M0.2.1 pc = .ok (.ireturn, 1)) (hr : M0.2.2.2.1 = some .byte) (hx : b_b8 x = x) (k : Q x w) : b_Y d M0 n Q X pc ls [(0, x)] w := x_bret (Z := b_Z d M0 n Q X) hd hr hx (Nat.le_refl 0) (Nat.le_refl 0) ⟨rfl, k⟩
theorem y_vret (hd : decode M0.2.1 pc = .ok (.return_, 1)) (hr : M0.2.2.2.1 = none) (k : Q 0 w) : b_Y d M0 n Q X pc ls [] w := x_vret (Z := b_Z d M0 n Q X) hd hr (Nat.le_refl 0) (Nat.le_refl 0) ⟨rfl, k⟩
theorem y_lret {x : Int} (hd : decode M0.2.1 pc = .ok (.lreturn, 1)) (hr : M0.2.2.2.1 = some .long) (k : Q x w) : b_Y d M0 n Q X pc ls [(1, x)] w := x_lret (Z := b_Z d M0 n Q X) hd hr (Nat.le_refl 0) (Nat.le_refl 0) ⟨rfl, k⟩
theorem y_aret {x : Int} {ty : FieldType} (hd : decode M0.2.1 pc = .ok (.areturn, 1)) (hr : M0.2.2.2.1 = some ty) (hty : (∃ C, ty = .object C) ∨ ∃ a, ty = .array a) (k : Q x w) : b_Y d M0 n Q X pc ls [(2, x)] w := x_aret (Z := b_Z d M0 n Q X) hd hr hty (Nat.le_refl 0) (Nat.le_refl 0) ⟨rfl, k⟩
end BridgeK
