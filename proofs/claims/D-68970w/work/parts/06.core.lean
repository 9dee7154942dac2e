/-! THE BRIDGE: a world of whole numbers, and the machine's judgements over it -/
section BridgeDefs
/-- a world: object, place in it -> what lies there -/
abbrev bW : Type := Int → Int → Int
/-- a value: 0 int, 1 long, 2 an object by its number (below 0: null), 3 the script, 4 a text by its number, 5 the bytes of a text, 6 the table of sizes, 7 a raw address, 9 nothing -/
abbrev bV : Type := Nat × Int
/-- method: name, code, locals, answer, handlers -/
abbrev bM : Type := MethodName × ByteArray × Nat × Option FieldType × List (Nat × Nat × Nat × Nat)
/-- launch, class numbers, array classes, first new address, script, texts, sizes -/
abbrev bE : Type := Launch × va_G × (Nat → ClassId) × Nat × (Nat × Nat × (Nat → Int32)) × ((Nat → Nat) × (Nat → Nat)) × Nat
abbrev bE_l (E : bE) : Launch := E.1
abbrev bE_D (E : bE) : va_G := E.2.1
abbrev bE_a (E : bE) : Nat → ClassId := E.2.2.1
abbrev bE_b (E : bE) : Nat := E.2.2.2.1
abbrev bE_s (E : bE) : Nat := E.2.2.2.2.1.1
abbrev bE_L (E : bE) : Nat := E.2.2.2.2.1.2.1
abbrev bE_x (E : bE) : Nat → Int32 := E.2.2.2.2.1.2.2
abbrev bE_k (E : bE) : Nat → Nat := E.2.2.2.2.2.1.1
abbrev bE_v (E : bE) : Nat → Nat := E.2.2.2.2.2.1.2
abbrev bE_z (E : bE) : Nat := E.2.2.2.2.2.2
/-- new addresses -/
def bA (E : bE) : Nat → Prop := fun q => bE_b E ≤ q
def b_vl (E : bE) (ad : Nat → Nat) (v : bV) : Value := match v.1 with
  | 0 => .int (Int32.ofInt v.2)
  | 1 => .long (Int64.ofInt v.2)
  | 2 => if v.2 < 0 then .null else .ref (ad v.2.toNat)
  | 3 => .ref (bE_s E)
  | 4 => .ref (bE_k E v.2.toNat)
  | 5 => .ref (bE_v E v.2.toNat)
  | 6 => .ref (bE_z E)
  | _ => .ref v.2.toNat
/-- a value in its range; objects are there -/
def b_okv (n : Nat) (v : bV) : Prop := (v.1 = 0 → -2147483648 ≤ v.2 ∧ v.2 ≤ 2147483647) ∧ (v.1 = 1 → -9223372036854775808 ≤ v.2 ∧ v.2 ≤ 9223372036854775807) ∧ (v.1 = 2 → v.2 < n)
theorem b_okv_mono {n n' : Nat} {v : bV} (h : b_okv n v) (hn : n ≤ n') : b_okv n' v := ⟨h.1, h.2.1, fun q => by have := h.2.2 q; omega⟩
theorem b_vl_agree {E : bE} {ad ad' : Nat → Nat} {n : Nat} {v : bV} (h : b_okv n v) (ha : ∀ i, i < n → ad' i = ad i) : b_vl E ad' v = b_vl E ad v := by
  obtain ⟨t, x⟩ := v
  unfold b_vl
  split
  · rfl
  · rfl
  · rename_i ht
    split
    · rfl
    · rw [ha _ (by have := h.2.2 ht; simp only at *; omega)]
  all_goals rfl
/-- locals -/
def b_lvs (E : bE) (ad : Nat → Nat) : Nat → List bV → List (Nat × Value)
  | _, [] => []
  | i, v :: r => if v.1 = 9 then b_lvs E ad (i + 1) r else (i, b_vl E ad v) :: b_lvs E ad (i + 1) r
theorem b_lvs_mem {E : bE} {ad : Nat → Nat} {q : Nat × Value} : ∀ (ls : List bV) (i : Nat), q ∈ b_lvs E ad i ls ↔ ∃ (j : Nat) (u : bV), ls[j]? = some u ∧ u.1 ≠ 9 ∧ q = (i + j, b_vl E ad u) := by
  intro ls
  induction ls with
  | nil => intro i; simp [b_lvs]
  | cons v r ih =>
    intro i
    have key : (∃ (j : Nat) (u : bV), r[j]? = some u ∧ u.1 ≠ 9 ∧ q = (i + 1 + j, b_vl E ad u)) ↔ ∃ (j : Nat) (u : bV), (v :: r)[j + 1]? = some u ∧ u.1 ≠ 9 ∧ q = (i + (j + 1), b_vl E ad u) := by
      constructor
      · rintro ⟨j, u, h1, h2, h3⟩
        exact ⟨j, u, by simpa using h1, h2, by rw [h3]; congr 1; omega⟩
      · rintro ⟨j, u, h1, h2, h3⟩
        exact ⟨j, u, by simpa using h1, h2, by rw [h3]; congr 1; omega⟩
    by_cases h9 : v.1 = 9
    · rw [b_lvs, if_pos h9, ih, key]
      constructor
      · rintro ⟨j, u, h⟩
        exact ⟨j + 1, u, h⟩
      · rintro ⟨j, u, h1, h2, h3⟩
        cases j with
        | zero =>
          simp at h1
          subst h1
          exact absurd h9 h2
        | succ j => exact ⟨j, u, h1, h2, h3⟩
    · rw [b_lvs, if_neg h9, List.mem_cons, ih, key]
      constructor
      · rintro (h | ⟨j, u, h⟩)
        · exact ⟨0, v, by simp, h9, by simpa using h⟩
        · exact ⟨j + 1, u, h⟩
      · rintro ⟨j, u, h1, h2, h3⟩
        cases j with
        | zero =>
          simp at h1
          subst h1
          exact Or.inl (by simpa using h3)
        | succ j => exact Or.inr ⟨j, u, h1, h2, h3⟩
theorem b_has_mono {ls : Array Slot} {n : Nat} {l l' : List (Nat × Value)} (h : lv_has ls n l) (hs : ∀ q ∈ l', q ∈ l) : lv_has ls n l' := ⟨h.1, h.2.1, fun q hq => h.2.2 q (hs q hq)⟩
theorem b_lvs_at {E : bE} {ad : Nat → Nat} {lsA : Array Slot} {n : Nat} {ls : List bV} (h : lv_has lsA n (b_lvs E ad 0 ls)) {i : Nat} {v : bV} (hv : ls[i]? = some v) (h9 : v.1 ≠ 9) : lsA[i]? = some (.val (b_vl E ad v)) :=
  h.2.2 (i, b_vl E ad v) ((b_lvs_mem ls 0).mpr ⟨i, v, hv, h9, by simp⟩)
theorem b_lvs_agree {E : bE} {ad ad' : Nat → Nat} {n : Nat} (ha : ∀ i, i < n → ad' i = ad i) : ∀ (ls : List bV) (i : Nat), (∀ v ∈ ls, b_okv n v) → b_lvs E ad' i ls = b_lvs E ad i ls := by
  intro ls
  induction ls with
  | nil => intro i _; rfl
  | cons v r ih =>
    intro i h
    rw [b_lvs, b_lvs, ih (i + 1) (fun u hu => h u (List.mem_cons_of_mem _ hu)), b_vl_agree (h v List.mem_cons_self) ha]
/-- the long ahead of a place is lost when its second half is overwritten -/
def b_cut (ls : List bV) (i : Nat) : List bV := match i with
  | 0 => ls
  | k + 1 => match ls[k]? with
    | some (1, _) => ls.set k (9, 0)
    | _ => ls
def b_set1 (ls : List bV) (i : Nat) (v : bV) : List bV := (b_cut ls i).set i v
def b_set2 (ls : List bV) (i : Nat) (v : bV) : List bV := ((b_cut ls i).set i v).set (i + 1) (9, 0)
theorem b_cut_at {ls : List bV} {i j : Nat} {u : bV} (h : (b_cut ls i)[j]? = some u) (h9 : u.1 ≠ 9) : ls[j]? = some u ∧ (j + 1 = i → u.1 ≠ 1) := by
  unfold b_cut at h
  split at h
  · exact ⟨h, fun q => by omega⟩
  · rename_i k
    split at h
    · rename_i x hx
      by_cases hj : k = j
      · subst hj
        rw [List.getElem?_set] at h
        split at h
        · split at h
          · have : u = (9, 0) := (Option.some.inj h).symm
            rw [this] at h9
            exact absurd rfl h9
          · cases h
        · exact absurd rfl ‹_›
      · rw [List.getElem?_set_ne hj] at h
        exact ⟨h, fun q => by omega⟩
    · rename_i hne
      refine ⟨h, fun q h1 => ?_⟩
      have : k = j := by omega
      subst this
      obtain ⟨t, x⟩ := u
      simp only at h1
      subst h1
      exact hne x h
end BridgeDefs
