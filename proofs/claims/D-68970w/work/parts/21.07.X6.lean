section RulesX6
set_option maxRecDepth 100000
abbrev LX6_set_32 (d n : Nat) (Q : Int → bW → Prop) (X : String → bW → Prop) (a0 : Int) (a3 : Int) (w : bW) : Prop := b_Y (d + 1) mX6_set n Q X 32 [(2, a0), (9, 0), (9, 0), (1, a3), (9, 0)] [] w
theorem rX6_set {d n : Nat} {w : bW} {Q : Int → bW → Prop} {X : String → bW → Prop} (hn : 143 ≤ n) (t : Int) (a1 : Int) (ht : b_is n t 0 5 3) (h : b_K d mX6_clear [(2, t)] n w (fun r1 w2 => if 0 ≤ a1 then (if 0 ≤ a1 then (LX6_set_32 d n Q X t a1 (b_up w2 t 2 0)) else (LX6_set_32 d n Q X t (b_l (-a1)) (b_up w2 t 2 0))) else (if 0 ≤ a1 then (LX6_set_32 d n Q X t a1 (b_up w2 t 2 1)) else (LX6_set_32 d n Q X t (b_l (-a1)) (b_up w2 t 2 1)))) X) : b_K (d + 1) mX6_set [(2, t), (1, a1)] n w Q X := by
  refine k_of (by decide) rfl rfl rfl (ls := [(2, t), (1, a1), (9, 0), (9, 0), (9, 0)]) rfl ?_
  refine x_aload_n 0 dX6_set_0 rfl rfl rfl rfl rfl ?_
  refine y_Vv 27 (M := mX6_clear) (As := []) (st := []) dX6_set_1 ht rfl q1746 q1747 q1748 q373 q1749 rfl hmX6_clear rfl rfl rfl rfl rfl rfl rfl (k_mono h (fun r1 w2 h => ?_))
  refine x_aload_n 0 dX6_set_4 rfl rfl rfl rfl rfl ?_
  refine x_lload_n 1 dX6_set_5 rfl rfl rfl ?_
  refine x_lconst 0 (z := 0) dX6_set_6 rfl (by decide) rfl ?_
  refine x_lc_ge (q := 11) (t := 15) 7 dX6_set_7 dX6_set_8 rfl rfl (b_ite h (fun hc h => ?_) (fun hc h => ?_))
  · refine x_iconst 0 (z := 0) dX6_set_15 rfl (by decide) rfl ?_
    refine x_put 17 2 (c := 5) dX6_set_16 ht rfl in_X6 tyX6_ok nmX6 q635 rfl rfl rfl (Or.inl rfl) (Or.inr (Or.inl ⟨rfl, rfl, by decide⟩)) rfl ?_
    refine x_lload_n 1 dX6_set_19 rfl rfl rfl ?_
    refine x_lconst 0 (z := 0) dX6_set_20 rfl (by decide) rfl ?_
    refine x_lc_ge (q := 25) (t := 30) 8 dX6_set_21 dX6_set_22 rfl rfl (b_ite h (fun hc h => ?_) (fun hc h => ?_))
    · refine x_lload_n 1 dX6_set_30 rfl rfl rfl ?_
      refine x_lstore_n 3 (ls' := [(2, t), (1, a1), (9, 0), (1, a1), (9, 0)]) dX6_set_31 rfl rfl rfl rfl ?_
      exact x_fg (fgk (fgd (fgk (fgk (fgk (fg0)))))) h
    · refine x_lload_n 1 dX6_set_25 rfl rfl rfl ?_
      refine x_lneg dX6_set_26 rfl ?_
      refine x_goto 4 (q := 31) dX6_set_27 rfl ?_
      refine x_lstore_n 3 (ls' := [(2, t), (1, a1), (9, 0), (1, b_l (-a1)), (9, 0)]) dX6_set_31 rfl rfl rfl rfl ?_
      exact x_fg (fgk (fgd (fgk (fgk (fgk (fg0)))))) h
  · refine x_iconst 1 (z := 1) dX6_set_11 rfl (by decide) rfl ?_
    refine x_goto 4 (q := 16) dX6_set_12 rfl ?_
    refine x_put 17 2 (c := 5) dX6_set_16 ht rfl in_X6 tyX6_ok nmX6 q635 rfl rfl rfl (Or.inl rfl) (Or.inr (Or.inl ⟨rfl, rfl, by decide⟩)) rfl ?_
    refine x_lload_n 1 dX6_set_19 rfl rfl rfl ?_
    refine x_lconst 0 (z := 0) dX6_set_20 rfl (by decide) rfl ?_
    refine x_lc_ge (q := 25) (t := 30) 8 dX6_set_21 dX6_set_22 rfl rfl (b_ite h (fun hc h => ?_) (fun hc h => ?_))
    · refine x_lload_n 1 dX6_set_30 rfl rfl rfl ?_
      refine x_lstore_n 3 (ls' := [(2, t), (1, a1), (9, 0), (1, a1), (9, 0)]) dX6_set_31 rfl rfl rfl rfl ?_
      exact x_fg (fgk (fgd (fgk (fgk (fgk (fg0)))))) h
    · refine x_lload_n 1 dX6_set_25 rfl rfl rfl ?_
      refine x_lneg dX6_set_26 rfl ?_
      refine x_goto 4 (q := 31) dX6_set_27 rfl ?_
      refine x_lstore_n 3 (ls' := [(2, t), (1, a1), (9, 0), (1, b_l (-a1)), (9, 0)]) dX6_set_31 rfl rfl rfl rfl ?_
      exact x_fg (fgk (fgd (fgk (fgk (fgk (fg0)))))) h
theorem sX6_set_32 {d n : Nat} {w : bW} {Q : Int → bW → Prop} {X : String → bW → Prop} (hn : 143 ≤ n) (a0 : Int) (a3 : Int) (ha0 : b_is n a0 0 5 3) (h : if a3 = 0 then (Q 0 w) else ((0 ≤ w a0 1 ∧ w a0 1 < 200) ∧ (LX6_set_32 d n Q X a0 (b_lush a3 16) (b_up (b_up w a0 1 (b_i ((w a0 1) + 1))) (a0 + 1) (w a0 1) (b_i (b_land a3 65535)))))) : LX6_set_32 d n Q X a0 a3 w := by
  refine x_lload_n 3 dX6_set_32 rfl rfl rfl ?_
  refine x_lconst 0 (z := 0) dX6_set_33 rfl (by decide) rfl ?_
  refine x_lc_eq (q := 38) (t := 68) 33 dX6_set_34 dX6_set_35 rfl rfl (b_ite h (fun hc h => ?_) (fun hc h => ?_))
  · exact y_vret dX6_set_68 rfl h
  · refine x_aload_n 0 dX6_set_38 rfl rfl rfl rfl rfl ?_
    refine y_getO 7 0 (c := 5) dX6_set_39 ha0 rfl in_X6 q626 rfl rfl rfl (fun h5 hf => of_X6_0 (Nat.le_trans (Nat.le_of_ble_eq_true rfl) hn) h5 ha0 hf) rfl (fun e1 => ?_)
    refine x_aload_n 0 dX6_set_42 rfl rfl rfl rfl rfl ?_
    refine x_dup dX6_set_43 rfl rfl ?_
    refine y_get 13 1 (c := 5) (z := w a0 1) dX6_set_44 ha0 rfl in_X6 q631 rfl rfl rfl rfl rfl ?_
    refine x_dup_x1 dX6_set_47 rfl rfl rfl ?_
    refine x_iconst 1 (z := 1) dX6_set_48 rfl (by decide) rfl ?_
    refine x_iadd dX6_set_49 rfl ?_
    refine x_put 13 1 (c := 5) dX6_set_50 ha0 rfl in_X6 tyX6_ok nmX6 q631 rfl rfl rfl (Or.inl rfl) (Or.inl ⟨rfl, rfl⟩) rfl ?_
    refine x_lload_n 3 dX6_set_53 rfl rfl rfl ?_
    refine x_ldc2 30 (x := 65535) dX6_set_54 q1750 rfl (by decide) rfl ?_
    refine x_land dX6_set_57 rfl ?_
    refine x_l2i dX6_set_58 rfl ?_
    obtain ⟨e2, h⟩ := h
    refine y_iast (x' := b_i (b_land a3 65535)) dX6_set_59 ⟨200, e1, e2⟩ rfl rfl ?_
    refine x_lload_n 3 dX6_set_60 rfl rfl rfl ?_
    refine x_bipush 16 (z := 16) dX6_set_61 rfl (by decide) rfl ?_
    refine x_lushr dX6_set_63 rfl ?_
    refine x_lstore_n 3 (ls' := [(2, a0), (9, 0), (9, 0), (1, b_lush a3 16), (9, 0)]) dX6_set_64 rfl rfl rfl rfl ?_
    refine x_goto (-33) (q := 32) dX6_set_65 rfl ?_
    exact x_fg (fgk (fgk (fgk (fgk (fgk (fg0)))))) h
theorem rX6_clear {d n : Nat} {w : bW} {Q : Int → bW → Prop} {X : String → bW → Prop} (t : Int) (ht : b_is n t 0 5 3) (h : Q 0 (b_up (b_up w t 1 0) t 2 0)) : b_K (d + 1) mX6_clear [(2, t)] n w Q X := by
  refine k_of (by decide) rfl rfl rfl (ls := [(2, t)]) rfl ?_
  refine x_aload_n 0 dX6_clear_0 rfl rfl rfl rfl rfl ?_
  refine x_iconst 0 (z := 0) dX6_clear_1 rfl (by decide) rfl ?_
  refine x_put 13 1 (c := 5) dX6_clear_2 ht rfl in_X6 tyX6_ok nmX6 q631 rfl rfl rfl (Or.inl rfl) (Or.inl ⟨rfl, rfl⟩) rfl ?_
  refine x_aload_n 0 dX6_clear_5 rfl rfl rfl rfl rfl ?_
  refine x_iconst 0 (z := 0) dX6_clear_6 rfl (by decide) rfl ?_
  refine x_put 17 2 (c := 5) dX6_clear_7 ht rfl in_X6 tyX6_ok nmX6 q635 rfl rfl rfl (Or.inl rfl) (Or.inr (Or.inl ⟨rfl, rfl, by decide⟩)) rfl ?_
  exact y_vret dX6_clear_10 rfl h
theorem rX6_bits {d n : Nat} {w : bW} {Q : Int → bW → Prop} {X : String → bW → Prop} (hn : 143 ≤ n) (t : Int) (ht : b_is n t 0 5 3) (h : if w t 1 ≠ 0 then ((0 ≤ b_i ((w t 1) - 1) ∧ b_i ((w t 1) - 1) < 200) ∧ (b_K d mJ11_numberOfLeadingZeros [(0, w (t + 1) (b_i ((w t 1) - 1)))] n w (fun r3 w4 => Q (b_i ((b_i ((b_i (16 * (w t 1))) - r3)) + 16)) w4) X)) else (Q 0 w)) : b_K (d + 1) mX6_bits [(2, t)] n w Q X := by
  refine k_of (by decide) rfl rfl rfl (ls := [(2, t)]) rfl ?_
  refine x_aload_n 0 dX6_bits_0 rfl rfl rfl rfl rfl ?_
  refine y_get 13 1 (c := 5) (z := w t 1) dX6_bits_1 ht rfl in_X6 q631 rfl rfl rfl rfl rfl ?_
  refine x_if_ne (t := 11) 7 dX6_bits_4 rfl rfl (b_ite h (fun hc h => ?_) (fun hc h => ?_))
  · refine x_bipush 16 (z := 16) dX6_bits_11 rfl (by decide) rfl ?_
    refine x_aload_n 0 dX6_bits_13 rfl rfl rfl rfl rfl ?_
    refine y_get 13 1 (c := 5) (z := w t 1) dX6_bits_14 ht rfl in_X6 q631 rfl rfl rfl rfl rfl ?_
    refine x_imul dX6_bits_17 rfl ?_
    refine x_aload_n 0 dX6_bits_18 rfl rfl rfl rfl rfl ?_
    refine y_getO 7 0 (c := 5) dX6_bits_19 ht rfl in_X6 q626 rfl rfl rfl (fun h5 hf => of_X6_0 (Nat.le_trans (Nat.le_of_ble_eq_true rfl) hn) h5 ht hf) rfl (fun e1 => ?_)
    refine x_aload_n 0 dX6_bits_22 rfl rfl rfl rfl rfl ?_
    refine y_get 13 1 (c := 5) (z := w t 1) dX6_bits_23 ht rfl in_X6 q631 rfl rfl rfl rfl rfl ?_
    refine x_iconst 1 (z := 1) dX6_bits_26 rfl (by decide) rfl ?_
    refine x_isub dX6_bits_27 rfl ?_
    obtain ⟨e2, h⟩ := h
    refine y_iald (z := w (t + 1) (b_i ((w t 1) - 1))) dX6_bits_28 ⟨200, e1, e2⟩ rfl rfl ?_
    refine y_Si 32 (M := mJ11_numberOfLeadingZeros) (As := [(0, w (t + 1) (b_i ((w t 1) - 1)))]) (st := [(0, b_i (16 * (w t 1)))]) dX6_bits_29 q1755 q1756 q399 q1757 hmJ11_numberOfLeadingZeros rfl rfl rfl rfl rfl rfl rfl rfl (k_mono h (fun r3 w4 h => ?_))
    refine x_isub dX6_bits_32 rfl ?_
    refine x_bipush 16 (z := 16) dX6_bits_33 rfl (by decide) rfl ?_
    refine x_iadd dX6_bits_35 rfl ?_
    exact y_iret dX6_bits_36 rfl h
  · refine x_iconst 0 (z := 0) dX6_bits_7 rfl (by decide) rfl ?_
    refine x_goto 28 (q := 36) dX6_bits_8 rfl ?_
    exact y_iret dX6_bits_36 rfl h
theorem rX6_isZero {d n : Nat} {w : bW} {Q : Int → bW → Prop} {X : String → bW → Prop} (t : Int) (ht : b_is n t 0 5 3) (h : if w t 1 ≠ 0 then (Q 0 w) else (Q 1 w)) : b_K (d + 1) mX6_isZero [(2, t)] n w Q X := by
  refine k_of (by decide) rfl rfl rfl (ls := [(2, t)]) rfl ?_
  refine x_aload_n 0 dX6_isZero_0 rfl rfl rfl rfl rfl ?_
  refine y_get 13 1 (c := 5) (z := w t 1) dX6_isZero_1 ht rfl in_X6 q631 rfl rfl rfl rfl rfl ?_
  refine x_if_ne (t := 11) 7 dX6_isZero_4 rfl rfl (b_ite h (fun hc h => ?_) (fun hc h => ?_))
  · refine x_iconst 0 (z := 0) dX6_isZero_11 rfl (by decide) rfl ?_
    exact y_zret dX6_isZero_12 rfl (by decide) h
  · refine x_iconst 1 (z := 1) dX6_isZero_7 rfl (by decide) rfl ?_
    refine x_goto 4 (q := 12) dX6_isZero_8 rfl ?_
    exact y_zret dX6_isZero_12 rfl (by decide) h
theorem rX6_at {d n : Nat} {w : bW} {Q : Int → bW → Prop} {X : String → bW → Prop} (hn : 143 ≤ n) (t : Int) (a1 : Int) (ht : b_is n t 0 5 3) (h : if w t 1 ≤ a1 then (Q 0 w) else ((0 ≤ a1 ∧ a1 < 200) ∧ (Q (w (t + 1) a1) w))) : b_K (d + 1) mX6_at [(2, t), (0, a1)] n w Q X := by
  refine k_of (by decide) rfl rfl rfl (ls := [(2, t), (0, a1)]) rfl ?_
  refine x_iload_n 1 dX6_at_0 rfl rfl rfl ?_
  refine x_aload_n 0 dX6_at_1 rfl rfl rfl rfl rfl ?_
  refine y_get 13 1 (c := 5) (z := w t 1) dX6_at_2 ht rfl in_X6 q631 rfl rfl rfl rfl rfl ?_
  refine x_icmp_ge (t := 17) 12 dX6_at_5 rfl rfl (b_ite h (fun hc h => ?_) (fun hc h => ?_))
  · refine x_iconst 0 (z := 0) dX6_at_17 rfl (by decide) rfl ?_
    exact y_iret dX6_at_18 rfl h
  · refine x_aload_n 0 dX6_at_8 rfl rfl rfl rfl rfl ?_
    refine y_getO 7 0 (c := 5) dX6_at_9 ht rfl in_X6 q626 rfl rfl rfl (fun h5 hf => of_X6_0 (Nat.le_trans (Nat.le_of_ble_eq_true rfl) hn) h5 ht hf) rfl (fun e1 => ?_)
    refine x_iload_n 1 dX6_at_12 rfl rfl rfl ?_
    obtain ⟨e2, h⟩ := h
    refine y_iald (z := w (t + 1) a1) dX6_at_13 ⟨200, e1, e2⟩ rfl rfl ?_
    refine x_goto 4 (q := 18) dX6_at_14 rfl ?_
    exact y_iret dX6_at_18 rfl h
abbrev LX6_trim_5 (d n : Nat) (Q : Int → bW → Prop) (X : String → bW → Prop) (a0 : Int) (w : bW) : Prop := b_Y (d + 1) mX6_trim n Q X 5 [(2, a0), (9, 0)] [] w
theorem rX6_trim {d n : Nat} {w : bW} {Q : Int → bW → Prop} {X : String → bW → Prop} (hn : 143 ≤ n) (t : Int) (a1 : Int) (ht : b_is n t 0 5 3) (h : LX6_trim_5 d n Q X t (b_up w t 1 a1)) : b_K (d + 1) mX6_trim [(2, t), (0, a1)] n w Q X := by
  refine k_of (by decide) rfl rfl rfl (ls := [(2, t), (0, a1)]) rfl ?_
  refine x_aload_n 0 dX6_trim_0 rfl rfl rfl rfl rfl ?_
  refine x_iload_n 1 dX6_trim_1 rfl rfl rfl ?_
  refine x_put 13 1 (c := 5) dX6_trim_2 ht rfl in_X6 tyX6_ok nmX6 q631 rfl rfl rfl (Or.inl rfl) (Or.inl ⟨rfl, rfl⟩) rfl ?_
  exact x_fg (fgk (fgd (fg0))) h
theorem sX6_trim_5 {d n : Nat} {w : bW} {Q : Int → bW → Prop} {X : String → bW → Prop} (hn : 143 ≤ n) (a0 : Int) (ha0 : b_is n a0 0 5 3) (h : if w a0 1 ≤ 0 then (if w a0 1 ≤ 0 then ((b_and (w a0 2) 0 = 0 ∨ b_and (w a0 2) 0 = 1) ∧ (Q 0 (b_up w a0 2 (b_and (w a0 2) 0)))) else ((b_and (w a0 2) 1 = 0 ∨ b_and (w a0 2) 1 = 1) ∧ (Q 0 (b_up w a0 2 (b_and (w a0 2) 1))))) else ((0 ≤ b_i ((w a0 1) - 1) ∧ b_i ((w a0 1) - 1) < 200) ∧ (if w (a0 + 1) (b_i ((w a0 1) - 1)) ≠ 0 then (if w a0 1 ≤ 0 then ((b_and (w a0 2) 0 = 0 ∨ b_and (w a0 2) 0 = 1) ∧ (Q 0 (b_up w a0 2 (b_and (w a0 2) 0)))) else ((b_and (w a0 2) 1 = 0 ∨ b_and (w a0 2) 1 = 1) ∧ (Q 0 (b_up w a0 2 (b_and (w a0 2) 1))))) else (LX6_trim_5 d n Q X a0 (b_up w a0 1 (b_i ((w a0 1) - 1))))))) : LX6_trim_5 d n Q X a0 w := by
  refine x_aload_n 0 dX6_trim_5 rfl rfl rfl rfl rfl ?_
  refine y_get 13 1 (c := 5) (z := w a0 1) dX6_trim_6 ha0 rfl in_X6 q631 rfl rfl rfl rfl rfl ?_
  refine x_if_le (t := 39) 30 dX6_trim_9 rfl rfl (b_ite h (fun hc h => ?_) (fun hc h => ?_))
  · refine x_aload_n 0 dX6_trim_39 rfl rfl rfl rfl rfl ?_
    refine x_dup dX6_trim_40 rfl rfl ?_
    refine y_get 17 2 (c := 5) (z := w a0 2) dX6_trim_41 ha0 rfl in_X6 q635 rfl rfl rfl rfl rfl ?_
    refine x_aload_n 0 dX6_trim_44 rfl rfl rfl rfl rfl ?_
    refine y_get 13 1 (c := 5) (z := w a0 1) dX6_trim_45 ha0 rfl in_X6 q631 rfl rfl rfl rfl rfl ?_
    refine x_if_le (t := 55) 7 dX6_trim_48 rfl rfl (b_ite h (fun hc h => ?_) (fun hc h => ?_))
    · refine x_iconst 0 (z := 0) dX6_trim_55 rfl (by decide) rfl ?_
      refine x_iand dX6_trim_56 rfl ?_
      obtain ⟨e1, h⟩ := h
      refine x_put 17 2 (c := 5) dX6_trim_57 ha0 rfl in_X6 tyX6_ok nmX6 q635 rfl rfl rfl (Or.inl rfl) (Or.inr (Or.inl ⟨rfl, rfl, e1⟩)) rfl ?_
      exact y_vret dX6_trim_60 rfl h
    · refine x_iconst 1 (z := 1) dX6_trim_51 rfl (by decide) rfl ?_
      refine x_goto 4 (q := 56) dX6_trim_52 rfl ?_
      refine x_iand dX6_trim_56 rfl ?_
      obtain ⟨e2, h⟩ := h
      refine x_put 17 2 (c := 5) dX6_trim_57 ha0 rfl in_X6 tyX6_ok nmX6 q635 rfl rfl rfl (Or.inl rfl) (Or.inr (Or.inl ⟨rfl, rfl, e2⟩)) rfl ?_
      exact y_vret dX6_trim_60 rfl h
  · refine x_aload_n 0 dX6_trim_12 rfl rfl rfl rfl rfl ?_
    refine y_getO 7 0 (c := 5) dX6_trim_13 ha0 rfl in_X6 q626 rfl rfl rfl (fun h5 hf => of_X6_0 (Nat.le_trans (Nat.le_of_ble_eq_true rfl) hn) h5 ha0 hf) rfl (fun e3 => ?_)
    refine x_aload_n 0 dX6_trim_16 rfl rfl rfl rfl rfl ?_
    refine y_get 13 1 (c := 5) (z := w a0 1) dX6_trim_17 ha0 rfl in_X6 q631 rfl rfl rfl rfl rfl ?_
    refine x_iconst 1 (z := 1) dX6_trim_20 rfl (by decide) rfl ?_
    refine x_isub dX6_trim_21 rfl ?_
    obtain ⟨e4, h⟩ := h
    refine y_iald (z := w (a0 + 1) (b_i ((w a0 1) - 1))) dX6_trim_22 ⟨200, e3, e4⟩ rfl rfl ?_
    refine x_if_ne (t := 39) 16 dX6_trim_23 rfl rfl (b_ite h (fun hc h => ?_) (fun hc h => ?_))
    · refine x_aload_n 0 dX6_trim_39 rfl rfl rfl rfl rfl ?_
      refine x_dup dX6_trim_40 rfl rfl ?_
      refine y_get 17 2 (c := 5) (z := w a0 2) dX6_trim_41 ha0 rfl in_X6 q635 rfl rfl rfl rfl rfl ?_
      refine x_aload_n 0 dX6_trim_44 rfl rfl rfl rfl rfl ?_
      refine y_get 13 1 (c := 5) (z := w a0 1) dX6_trim_45 ha0 rfl in_X6 q631 rfl rfl rfl rfl rfl ?_
      refine x_if_le (t := 55) 7 dX6_trim_48 rfl rfl (b_ite h (fun hc h => ?_) (fun hc h => ?_))
      · refine x_iconst 0 (z := 0) dX6_trim_55 rfl (by decide) rfl ?_
        refine x_iand dX6_trim_56 rfl ?_
        obtain ⟨e5, h⟩ := h
        refine x_put 17 2 (c := 5) dX6_trim_57 ha0 rfl in_X6 tyX6_ok nmX6 q635 rfl rfl rfl (Or.inl rfl) (Or.inr (Or.inl ⟨rfl, rfl, e5⟩)) rfl ?_
        exact y_vret dX6_trim_60 rfl h
      · refine x_iconst 1 (z := 1) dX6_trim_51 rfl (by decide) rfl ?_
        refine x_goto 4 (q := 56) dX6_trim_52 rfl ?_
        refine x_iand dX6_trim_56 rfl ?_
        obtain ⟨e6, h⟩ := h
        refine x_put 17 2 (c := 5) dX6_trim_57 ha0 rfl in_X6 tyX6_ok nmX6 q635 rfl rfl rfl (Or.inl rfl) (Or.inr (Or.inl ⟨rfl, rfl, e6⟩)) rfl ?_
        exact y_vret dX6_trim_60 rfl h
    · refine x_aload_n 0 dX6_trim_26 rfl rfl rfl rfl rfl ?_
      refine x_dup dX6_trim_27 rfl rfl ?_
      refine y_get 13 1 (c := 5) (z := w a0 1) dX6_trim_28 ha0 rfl in_X6 q631 rfl rfl rfl rfl rfl ?_
      refine x_iconst 1 (z := 1) dX6_trim_31 rfl (by decide) rfl ?_
      refine x_isub dX6_trim_32 rfl ?_
      refine x_put 13 1 (c := 5) dX6_trim_33 ha0 rfl in_X6 tyX6_ok nmX6 q631 rfl rfl rfl (Or.inl rfl) (Or.inl ⟨rfl, rfl⟩) rfl ?_
      refine x_goto (-31) (q := 5) dX6_trim_36 rfl ?_
      exact x_fg (fgk (fgk (fg0))) h
theorem rX6_compare {d n : Nat} {w : bW} {Q : Int → bW → Prop} {X : String → bW → Prop} (t : Int) (a1 : Int) (ht : b_is n t 0 5 3) (ha1 : b_is n a1 0 5 3) (h : if w t 2 = w a1 2 then (if w t 2 = 0 then (b_K d mX6_compareSize [(2, t), (2, a1)] n w (fun r1 w2 => Q r1 w2) X) else (b_K d mX6_compareSize [(2, a1), (2, t)] n w (fun r3 w4 => Q r3 w4) X)) else (if w t 2 = 0 then (Q 1 w) else (Q (-1) w))) : b_K (d + 1) mX6_compare [(2, t), (2, a1)] n w Q X := by
  refine k_of (by decide) rfl rfl rfl (ls := [(2, t), (2, a1)]) rfl ?_
  refine x_aload_n 0 dX6_compare_0 rfl rfl rfl rfl rfl ?_
  refine y_get 17 2 (c := 5) (z := w t 2) dX6_compare_1 ht rfl in_X6 q635 rfl rfl rfl rfl rfl ?_
  refine x_aload_n 1 dX6_compare_4 rfl rfl rfl rfl rfl ?_
  refine y_get 17 2 (c := 5) (z := w a1 2) dX6_compare_5 ha1 rfl in_X6 q635 rfl rfl rfl rfl rfl ?_
  refine x_icmp_eq (t := 24) 16 dX6_compare_8 rfl rfl (b_ite h (fun hc h => ?_) (fun hc h => ?_))
  · refine x_aload_n 0 dX6_compare_24 rfl rfl rfl rfl rfl ?_
    refine y_get 17 2 (c := 5) (z := w t 2) dX6_compare_25 ht rfl in_X6 q635 rfl rfl rfl rfl rfl ?_
    refine x_if_eq (t := 39) 11 dX6_compare_28 rfl rfl (b_ite h (fun hc h => ?_) (fun hc h => ?_))
    · refine x_aload_n 0 dX6_compare_39 rfl rfl rfl rfl rfl ?_
      refine x_aload_n 1 dX6_compare_40 rfl rfl rfl rfl rfl ?_
      refine y_Vi 42 (M := mX6_compareSize) (As := [(2, a1)]) (st := []) dX6_compare_41 ht rfl q2117 q2118 q2119 q373 q2120 rfl hmX6_compareSize rfl rfl rfl rfl rfl rfl rfl rfl (k_mono h (fun r1 w2 h => ?_))
      exact y_iret dX6_compare_44 rfl h
    · refine x_aload_n 1 dX6_compare_31 rfl rfl rfl rfl rfl ?_
      refine x_aload_n 0 dX6_compare_32 rfl rfl rfl rfl rfl ?_
      refine y_Vi 42 (M := mX6_compareSize) (As := [(2, t)]) (st := []) dX6_compare_33 ha1 rfl q2117 q2118 q2119 q373 q2120 rfl hmX6_compareSize rfl rfl rfl rfl rfl rfl rfl rfl (k_mono h (fun r3 w4 h => ?_))
      refine x_goto 8 (q := 44) dX6_compare_36 rfl ?_
      exact y_iret dX6_compare_44 rfl h
  · refine x_aload_n 0 dX6_compare_11 rfl rfl rfl rfl rfl ?_
    refine y_get 17 2 (c := 5) (z := w t 2) dX6_compare_12 ht rfl in_X6 q635 rfl rfl rfl rfl rfl ?_
    refine x_if_eq (t := 22) 7 dX6_compare_15 rfl rfl (b_ite h (fun hc h => ?_) (fun hc h => ?_))
    · refine x_iconst 1 (z := 1) dX6_compare_22 rfl (by decide) rfl ?_
      exact y_iret dX6_compare_23 rfl h
    · refine x_iconst (-1) (z := (-1)) dX6_compare_18 rfl (by decide) rfl ?_
      refine x_goto 4 (q := 23) dX6_compare_19 rfl ?_
      exact y_iret dX6_compare_23 rfl h
abbrev LX6_compareSize_35 (d n : Nat) (Q : Int → bW → Prop) (X : String → bW → Prop) (a0 : Int) (a1 : Int) (a2 : Int) (w : bW) : Prop := b_Y (d + 1) mX6_compareSize n Q X 35 [(2, a0), (2, a1), (0, a2)] [] w
theorem rX6_compareSize {d n : Nat} {w : bW} {Q : Int → bW → Prop} {X : String → bW → Prop} (hn : 143 ≤ n) (t : Int) (a1 : Int) (ht : b_is n t 0 5 3) (ha1 : b_is n a1 0 5 3) (h : if w t 1 = w a1 1 then (LX6_compareSize_35 d n Q X t a1 (b_i ((w t 1) - 1)) w) else (if w a1 1 ≤ w t 1 then (Q 1 w) else (Q (-1) w))) : b_K (d + 1) mX6_compareSize [(2, t), (2, a1)] n w Q X := by
  refine k_of (by decide) rfl rfl rfl (ls := [(2, t), (2, a1), (9, 0)]) rfl ?_
  refine x_aload_n 0 dX6_compareSize_0 rfl rfl rfl rfl rfl ?_
  refine y_get 13 1 (c := 5) (z := w t 1) dX6_compareSize_1 ht rfl in_X6 q631 rfl rfl rfl rfl rfl ?_
  refine x_aload_n 1 dX6_compareSize_4 rfl rfl rfl rfl rfl ?_
  refine y_get 13 1 (c := 5) (z := w a1 1) dX6_compareSize_5 ha1 rfl in_X6 q631 rfl rfl rfl rfl rfl ?_
  refine x_icmp_eq (t := 28) 20 dX6_compareSize_8 rfl rfl (b_ite h (fun hc h => ?_) (fun hc h => ?_))
  · refine x_aload_n 0 dX6_compareSize_28 rfl rfl rfl rfl rfl ?_
    refine y_get 13 1 (c := 5) (z := w t 1) dX6_compareSize_29 ht rfl in_X6 q631 rfl rfl rfl rfl rfl ?_
    refine x_iconst 1 (z := 1) dX6_compareSize_32 rfl (by decide) rfl ?_
    refine x_isub dX6_compareSize_33 rfl ?_
    refine x_istore_n 2 (ls' := [(2, t), (2, a1), (0, b_i ((w t 1) - 1))]) dX6_compareSize_34 rfl rfl rfl rfl ?_
    exact x_fg (fgk (fgk (fgk (fg0)))) h
  · refine x_aload_n 0 dX6_compareSize_11 rfl rfl rfl rfl rfl ?_
    refine y_get 13 1 (c := 5) (z := w t 1) dX6_compareSize_12 ht rfl in_X6 q631 rfl rfl rfl rfl rfl ?_
    refine x_aload_n 1 dX6_compareSize_15 rfl rfl rfl rfl rfl ?_
    refine y_get 13 1 (c := 5) (z := w a1 1) dX6_compareSize_16 ha1 rfl in_X6 q631 rfl rfl rfl rfl rfl ?_
    refine x_icmp_ge (t := 26) 7 dX6_compareSize_19 rfl rfl (b_ite h (fun hc h => ?_) (fun hc h => ?_))
    · refine x_iconst 1 (z := 1) dX6_compareSize_26 rfl (by decide) rfl ?_
      exact y_iret dX6_compareSize_27 rfl h
    · refine x_iconst (-1) (z := (-1)) dX6_compareSize_22 rfl (by decide) rfl ?_
      refine x_goto 4 (q := 27) dX6_compareSize_23 rfl ?_
      exact y_iret dX6_compareSize_27 rfl h
theorem sX6_compareSize_35 {d n : Nat} {w : bW} {Q : Int → bW → Prop} {X : String → bW → Prop} (hn : 143 ≤ n) (a0 : Int) (a1 : Int) (a2 : Int) (ha0 : b_is n a0 0 5 3) (ha1 : b_is n a1 0 5 3) (h : if a2 < 0 then (if 0 ≤ a2 then ((0 ≤ a2 ∧ a2 < 200) ∧ ((0 ≤ a2 ∧ a2 < 200) ∧ (if w (a1 + 1) a2 ≤ w (a0 + 1) a2 then (Q 1 w) else (Q (-1) w)))) else (Q 0 w)) else ((0 ≤ a2 ∧ a2 < 200) ∧ ((0 ≤ a2 ∧ a2 < 200) ∧ (if w (a0 + 1) a2 ≠ w (a1 + 1) a2 then (if 0 ≤ a2 then (if w (a1 + 1) a2 ≤ w (a0 + 1) a2 then (Q 1 w) else (Q (-1) w)) else (Q 0 w)) else (LX6_compareSize_35 d n Q X a0 a1 (b_i (a2 + (-1))) w))))) : LX6_compareSize_35 d n Q X a0 a1 a2 w := by
  refine x_iload_n 2 dX6_compareSize_35 rfl rfl rfl ?_
  refine x_if_lt (t := 60) 24 dX6_compareSize_36 rfl rfl (b_ite h (fun hc h => ?_) (fun hc h => ?_))
  · refine x_iload_n 2 dX6_compareSize_60 rfl rfl rfl ?_
    refine x_if_ge (t := 68) 7 dX6_compareSize_61 rfl rfl (b_ite h (fun hc h => ?_) (fun hc h => ?_))
    · refine x_aload_n 0 dX6_compareSize_68 rfl rfl rfl rfl rfl ?_
      refine y_getO 7 0 (c := 5) dX6_compareSize_69 ha0 rfl in_X6 q626 rfl rfl rfl (fun h5 hf => of_X6_0 (Nat.le_trans (Nat.le_of_ble_eq_true rfl) hn) h5 ha0 hf) rfl (fun e1 => ?_)
      refine x_iload_n 2 dX6_compareSize_72 rfl rfl rfl ?_
      obtain ⟨e2, h⟩ := h
      refine y_iald (z := w (a0 + 1) a2) dX6_compareSize_73 ⟨200, e1, e2⟩ rfl rfl ?_
      refine x_aload_n 1 dX6_compareSize_74 rfl rfl rfl rfl rfl ?_
      refine y_getO 7 0 (c := 5) dX6_compareSize_75 ha1 rfl in_X6 q626 rfl rfl rfl (fun h5 hf => of_X6_0 (Nat.le_trans (Nat.le_of_ble_eq_true rfl) hn) h5 ha1 hf) rfl (fun e3 => ?_)
      refine x_iload_n 2 dX6_compareSize_78 rfl rfl rfl ?_
      obtain ⟨e4, h⟩ := h
      refine y_iald (z := w (a1 + 1) a2) dX6_compareSize_79 ⟨200, e3, e4⟩ rfl rfl ?_
      refine x_icmp_ge (t := 87) 7 dX6_compareSize_80 rfl rfl (b_ite h (fun hc h => ?_) (fun hc h => ?_))
      · refine x_iconst 1 (z := 1) dX6_compareSize_87 rfl (by decide) rfl ?_
        exact y_iret dX6_compareSize_88 rfl h
      · refine x_iconst (-1) (z := (-1)) dX6_compareSize_83 rfl (by decide) rfl ?_
        refine x_goto 4 (q := 88) dX6_compareSize_84 rfl ?_
        exact y_iret dX6_compareSize_88 rfl h
    · refine x_iconst 0 (z := 0) dX6_compareSize_64 rfl (by decide) rfl ?_
      refine x_goto 23 (q := 88) dX6_compareSize_65 rfl ?_
      exact y_iret dX6_compareSize_88 rfl h
  · refine x_aload_n 0 dX6_compareSize_39 rfl rfl rfl rfl rfl ?_
    refine y_getO 7 0 (c := 5) dX6_compareSize_40 ha0 rfl in_X6 q626 rfl rfl rfl (fun h5 hf => of_X6_0 (Nat.le_trans (Nat.le_of_ble_eq_true rfl) hn) h5 ha0 hf) rfl (fun e5 => ?_)
    refine x_iload_n 2 dX6_compareSize_43 rfl rfl rfl ?_
    obtain ⟨e6, h⟩ := h
    refine y_iald (z := w (a0 + 1) a2) dX6_compareSize_44 ⟨200, e5, e6⟩ rfl rfl ?_
    refine x_aload_n 1 dX6_compareSize_45 rfl rfl rfl rfl rfl ?_
    refine y_getO 7 0 (c := 5) dX6_compareSize_46 ha1 rfl in_X6 q626 rfl rfl rfl (fun h5 hf => of_X6_0 (Nat.le_trans (Nat.le_of_ble_eq_true rfl) hn) h5 ha1 hf) rfl (fun e7 => ?_)
    refine x_iload_n 2 dX6_compareSize_49 rfl rfl rfl ?_
    obtain ⟨e8, h⟩ := h
    refine y_iald (z := w (a1 + 1) a2) dX6_compareSize_50 ⟨200, e7, e8⟩ rfl rfl ?_
    refine x_icmp_ne (t := 60) 9 dX6_compareSize_51 rfl rfl (b_ite h (fun hc h => ?_) (fun hc h => ?_))
    · refine x_iload_n 2 dX6_compareSize_60 rfl rfl rfl ?_
      refine x_if_ge (t := 68) 7 dX6_compareSize_61 rfl rfl (b_ite h (fun hc h => ?_) (fun hc h => ?_))
      · refine x_aload_n 0 dX6_compareSize_68 rfl rfl rfl rfl rfl ?_
        refine y_getO 7 0 (c := 5) dX6_compareSize_69 ha0 rfl in_X6 q626 rfl rfl rfl (fun h5 hf => of_X6_0 (Nat.le_trans (Nat.le_of_ble_eq_true rfl) hn) h5 ha0 hf) rfl (fun e9 => ?_)
        refine x_iload_n 2 dX6_compareSize_72 rfl rfl rfl ?_
        refine y_iald (z := w (a0 + 1) a2) dX6_compareSize_73 ⟨200, e5, e6⟩ rfl rfl ?_
        refine x_aload_n 1 dX6_compareSize_74 rfl rfl rfl rfl rfl ?_
        refine y_getO 7 0 (c := 5) dX6_compareSize_75 ha1 rfl in_X6 q626 rfl rfl rfl (fun h5 hf => of_X6_0 (Nat.le_trans (Nat.le_of_ble_eq_true rfl) hn) h5 ha1 hf) rfl (fun e10 => ?_)
        refine x_iload_n 2 dX6_compareSize_78 rfl rfl rfl ?_
        refine y_iald (z := w (a1 + 1) a2) dX6_compareSize_79 ⟨200, e7, e8⟩ rfl rfl ?_
        refine x_icmp_ge (t := 87) 7 dX6_compareSize_80 rfl rfl (b_ite h (fun hc h => ?_) (fun hc h => ?_))
        · refine x_iconst 1 (z := 1) dX6_compareSize_87 rfl (by decide) rfl ?_
          exact y_iret dX6_compareSize_88 rfl h
        · refine x_iconst (-1) (z := (-1)) dX6_compareSize_83 rfl (by decide) rfl ?_
          refine x_goto 4 (q := 88) dX6_compareSize_84 rfl ?_
          exact y_iret dX6_compareSize_88 rfl h
      · refine x_iconst 0 (z := 0) dX6_compareSize_64 rfl (by decide) rfl ?_
        refine x_goto 23 (q := 88) dX6_compareSize_65 rfl ?_
        exact y_iret dX6_compareSize_88 rfl h
    · refine x_iinc 2 (-1) (ls' := [(2, a0), (2, a1), (0, b_i (a2 + (-1)))]) dX6_compareSize_54 rfl rfl rfl rfl ?_
      refine x_goto (-22) (q := 35) dX6_compareSize_57 rfl ?_
      exact x_fg (fgk (fgk (fgk (fg0)))) h
theorem rX6_copy {d n : Nat} {w : bW} {Q : Int → bW → Prop} {X : String → bW → Prop} (hn : 143 ≤ n) (t : Int) (a1 : Int) (ht : b_is n t 0 5 3) (ha1 : b_is n a1 0 5 3) (h : (a1 + 1 ≠ t + 1 ∧ (0 : Int) ≤ 0 ∧ (0 : Int) ≤ 0 ∧ (0 : Int) ≤ w a1 1 ∧ (0 : Int) + w a1 1 ≤ 200 ∧ (0 : Int) + w a1 1 ≤ 200) ∧ (((b_up (b_cp w (a1 + 1) 0 (t + 1) 0 (w a1 1)) t 1 ((b_cp w (a1 + 1) 0 (t + 1) 0 (w a1 1)) a1 1)) a1 2 = 0 ∨ (b_up (b_cp w (a1 + 1) 0 (t + 1) 0 (w a1 1)) t 1 ((b_cp w (a1 + 1) 0 (t + 1) 0 (w a1 1)) a1 1)) a1 2 = 1) ∧ (Q 0 (b_up (b_up (b_cp w (a1 + 1) 0 (t + 1) 0 (w a1 1)) t 1 ((b_cp w (a1 + 1) 0 (t + 1) 0 (w a1 1)) a1 1)) t 2 ((b_up (b_cp w (a1 + 1) 0 (t + 1) 0 (w a1 1)) t 1 ((b_cp w (a1 + 1) 0 (t + 1) 0 (w a1 1)) a1 1)) a1 2))))) : b_K (d + 1) mX6_copy [(2, t), (2, a1)] n w Q X := by
  refine k_of (by decide) rfl rfl rfl (ls := [(2, t), (2, a1)]) rfl ?_
  refine x_aload_n 1 dX6_copy_0 rfl rfl rfl rfl rfl ?_
  refine y_getO 7 0 (c := 5) dX6_copy_1 ha1 rfl in_X6 q626 rfl rfl rfl (fun h5 hf => of_X6_0 (Nat.le_trans (Nat.le_of_ble_eq_true rfl) hn) h5 ha1 hf) rfl (fun e1 => ?_)
  refine x_iconst 0 (z := 0) dX6_copy_4 rfl (by decide) rfl ?_
  refine x_aload_n 0 dX6_copy_5 rfl rfl rfl rfl rfl ?_
  refine y_getO 7 0 (c := 5) dX6_copy_6 ht rfl in_X6 q626 rfl rfl rfl (fun h5 hf => of_X6_0 (Nat.le_trans (Nat.le_of_ble_eq_true rfl) hn) h5 ht hf) rfl (fun e2 => ?_)
  refine x_iconst 0 (z := 0) dX6_copy_9 rfl (by decide) rfl ?_
  refine x_aload_n 1 dX6_copy_10 rfl rfl rfl rfl rfl ?_
  refine y_get 13 1 (c := 5) (z := w a1 1) dX6_copy_11 ha1 rfl in_X6 q631 rfl rfl rfl rfl rfl ?_
  obtain ⟨e3, h⟩ := h
  refine x_copyi 21 dX6_copy_14 q2801 q1893 q1892 q400 e1 e2 e3.1 (by decide) e3.2.1 e3.2.2.1 e3.2.2.2.1 e3.2.2.2.2.1 e3.2.2.2.2.2 (Nat.le_add_left 1 d) rfl rfl ?_
  refine x_aload_n 0 dX6_copy_17 rfl rfl rfl rfl rfl ?_
  refine x_aload_n 1 dX6_copy_18 rfl rfl rfl rfl rfl ?_
  refine y_get 13 1 (c := 5) (z := (b_cp w (a1 + 1) 0 (t + 1) 0 (w a1 1)) a1 1) dX6_copy_19 ha1 rfl in_X6 q631 rfl rfl rfl rfl rfl ?_
  refine x_put 13 1 (c := 5) dX6_copy_22 ht rfl in_X6 tyX6_ok nmX6 q631 rfl rfl rfl (Or.inl rfl) (Or.inl ⟨rfl, rfl⟩) rfl ?_
  refine x_aload_n 0 dX6_copy_25 rfl rfl rfl rfl rfl ?_
  refine x_aload_n 1 dX6_copy_26 rfl rfl rfl rfl rfl ?_
  refine y_get 17 2 (c := 5) (z := (b_up (b_cp w (a1 + 1) 0 (t + 1) 0 (w a1 1)) t 1 ((b_cp w (a1 + 1) 0 (t + 1) 0 (w a1 1)) a1 1)) a1 2) dX6_copy_27 ha1 rfl in_X6 q635 rfl rfl rfl rfl rfl ?_
  obtain ⟨e4, h⟩ := h
  refine x_put 17 2 (c := 5) dX6_copy_30 ht rfl in_X6 tyX6_ok nmX6 q635 rfl rfl rfl (Or.inl rfl) (Or.inr (Or.inl ⟨rfl, rfl, e4⟩)) rfl ?_
  exact y_vret dX6_copy_33 rfl h
theorem rX6_endless {d n : Nat} {w : bW} {Q : Int → bW → Prop} {X : String → bW → Prop} (t : Int) (a1 : Int) (a2 : Int) (ht : b_is n t 0 5 3) (h : if w t 2 ≠ 0 then (if a2 = 0 then (b_K d mX6_at [(2, t), (0, a1)] n w (fun r1 w2 => Q (b_and (b_xor r1 (-1)) 65535) w2) X) else (b_K d mX6_at [(2, t), (0, a1)] n w (fun r3 w4 => Q (b_and (b_i (-r3)) 65535) w4) X)) else (b_K d mX6_at [(2, t), (0, a1)] n w (fun r5 w6 => Q r5 w6) X)) : b_K (d + 1) mX6_endless [(2, t), (0, a1), (0, a2)] n w Q X := by
  refine k_of (by decide) rfl rfl rfl (ls := [(2, t), (0, a1), (0, a2)]) rfl ?_
  refine x_aload_n 0 dX6_endless_0 rfl rfl rfl rfl rfl ?_
  refine y_get 17 2 (c := 5) (z := w t 2) dX6_endless_1 ht rfl in_X6 q635 rfl rfl rfl rfl rfl ?_
  refine x_if_ne (t := 15) 11 dX6_endless_4 rfl rfl (b_ite h (fun hc h => ?_) (fun hc h => ?_))
  · refine x_iload_n 2 dX6_endless_15 rfl rfl rfl ?_
    refine x_if_eq (t := 31) 15 dX6_endless_16 rfl rfl (b_ite h (fun hc h => ?_) (fun hc h => ?_))
    · refine x_aload_n 0 dX6_endless_31 rfl rfl rfl rfl rfl ?_
      refine x_iload_n 1 dX6_endless_32 rfl rfl rfl ?_
      refine y_Vi 38 (M := mX6_at) (As := [(0, a1)]) (st := []) dX6_endless_33 ht rfl q2828 q1962 q1963 q373 q1964 rfl hmX6_at rfl rfl rfl rfl rfl rfl rfl rfl (k_mono h (fun r1 w2 h => ?_))
      refine x_iconst (-1) (z := (-1)) dX6_endless_36 rfl (by decide) rfl ?_
      refine x_ixor dX6_endless_37 rfl ?_
      refine x_ldc 41 (x := 65535) dX6_endless_38 q2829 rfl (by decide) rfl ?_
      refine x_iand dX6_endless_40 rfl ?_
      exact y_iret dX6_endless_41 rfl h
    · refine x_aload_n 0 dX6_endless_19 rfl rfl rfl rfl rfl ?_
      refine x_iload_n 1 dX6_endless_20 rfl rfl rfl ?_
      refine y_Vi 38 (M := mX6_at) (As := [(0, a1)]) (st := []) dX6_endless_21 ht rfl q2828 q1962 q1963 q373 q1964 rfl hmX6_at rfl rfl rfl rfl rfl rfl rfl rfl (k_mono h (fun r3 w4 h => ?_))
      refine x_ineg dX6_endless_24 rfl ?_
      refine x_ldc 41 (x := 65535) dX6_endless_25 q2829 rfl (by decide) rfl ?_
      refine x_iand dX6_endless_27 rfl ?_
      refine x_goto 13 (q := 41) dX6_endless_28 rfl ?_
      exact y_iret dX6_endless_41 rfl h
  · refine x_aload_n 0 dX6_endless_7 rfl rfl rfl rfl rfl ?_
    refine x_iload_n 1 dX6_endless_8 rfl rfl rfl ?_
    refine y_Vi 38 (M := mX6_at) (As := [(0, a1)]) (st := []) dX6_endless_9 ht rfl q2828 q1962 q1963 q373 q1964 rfl hmX6_at rfl rfl rfl rfl rfl rfl rfl rfl (k_mono h (fun r5 w6 h => ?_))
    refine x_goto 29 (q := 41) dX6_endless_12 rfl ?_
    exact y_iret dX6_endless_41 rfl h
end RulesX6
