section RulesX15
set_option maxRecDepth 100000
abbrev LX15_entry_7 (d n : Nat) (Q : Int → bW → Prop) (X : String → bW → Prop) (a1 : Int) (a2 : Int) (a3 : Int) (w : bW) : Prop := b_Y (d + 1) mX15_entry n Q X 7 [(2, 53), (0, a1), (0, a2), (0, a3)] [] w
theorem rX15_entry {d n : Nat} {w : bW} {Q : Int → bW → Prop} {X : String → bW → Prop} (hn : 143 ≤ n) (a1 : Int) (a2 : Int) (h : (0 ≤ a1 ∧ a1 < 2001) ∧ (LX15_entry_7 d n Q X a1 a2 (w 57 a1) w)) : b_K (d + 1) mX15_entry [(2, 53), (0, a1), (0, a2)] n w Q X := by
  have i53 := iz53 (Nat.le_trans (Nat.le_of_ble_eq_true rfl) hn)
  have i57 := iz57 (Nat.le_trans (Nat.le_of_ble_eq_true rfl) hn)
  refine k_of (by decide) rfl rfl rfl (ls := [(2, 53), (0, a1), (0, a2), (9, 0)]) rfl ?_
  refine x_aload_n 0 dX15_entry_0 rfl rfl rfl rfl rfl ?_
  refine y_getF 21 3 (c := 14) (z := 57) dX15_entry_1 i53 rfl in_X15 q1029 rfl rfl rfl fn_53_3 (Nat.le_trans (Nat.le_of_ble_eq_true rfl) hn) rfl ?_
  refine x_iload_n 1 dX15_entry_4 rfl rfl rfl ?_
  obtain ⟨e1, h⟩ := h
  refine y_iald (z := w 57 a1) dX15_entry_5 ⟨2001, i57, e1⟩ rfl rfl ?_
  refine x_istore_n 3 (ls' := [(2, 53), (0, a1), (0, a2), (0, w 57 a1)]) dX15_entry_6 rfl rfl rfl rfl ?_
  exact x_fg (fgk (fgk (fgk (fgk (fg0))))) h
theorem sX15_entry_7 {d n : Nat} {w : bW} {Q : Int → bW → Prop} {X : String → bW → Prop} (hn : 143 ≤ n) (a1 : Int) (a2 : Int) (a3 : Int) (h : (0 ≤ b_i (a1 + 1) ∧ b_i (a1 + 1) < 2001) ∧ (if w 57 (b_i (a1 + 1)) ≤ a3 then (if w 57 (b_i (a1 + 1)) ≤ a3 then (Q (-1) w) else (Q a3 w)) else ((0 ≤ a3 ∧ a3 < 12000) ∧ (if w 60 a3 = a2 then (if w 57 (b_i (a1 + 1)) ≤ a3 then (Q (-1) w) else (Q a3 w)) else (LX15_entry_7 d n Q X a1 a2 (b_i (a3 + 1)) w))))) : LX15_entry_7 d n Q X a1 a2 a3 w := by
  have i53 := iz53 (Nat.le_trans (Nat.le_of_ble_eq_true rfl) hn)
  have i57 := iz57 (Nat.le_trans (Nat.le_of_ble_eq_true rfl) hn)
  have i60 := iz60 (Nat.le_trans (Nat.le_of_ble_eq_true rfl) hn)
  refine x_iload_n 3 dX15_entry_7 rfl rfl rfl ?_
  refine x_aload_n 0 dX15_entry_8 rfl rfl rfl rfl rfl ?_
  refine y_getF 21 3 (c := 14) (z := 57) dX15_entry_9 i53 rfl in_X15 q1029 rfl rfl rfl fn_53_3 (Nat.le_trans (Nat.le_of_ble_eq_true rfl) hn) rfl ?_
  refine x_iload_n 1 dX15_entry_12 rfl rfl rfl ?_
  refine x_iconst 1 (z := 1) dX15_entry_13 rfl (by decide) rfl ?_
  refine x_iadd dX15_entry_14 rfl ?_
  obtain ⟨e1, h⟩ := h
  refine y_iald (z := w 57 (b_i (a1 + 1))) dX15_entry_15 ⟨2001, i57, e1⟩ rfl rfl ?_
  refine x_icmp_ge (t := 35) 19 dX15_entry_16 rfl rfl (b_ite h (fun hc h => ?_) (fun hc h => ?_))
  · refine x_iload_n 3 dX15_entry_35 rfl rfl rfl ?_
    refine x_aload_n 0 dX15_entry_36 rfl rfl rfl rfl rfl ?_
    refine y_getF 21 3 (c := 14) (z := 57) dX15_entry_37 i53 rfl in_X15 q1029 rfl rfl rfl fn_53_3 (Nat.le_trans (Nat.le_of_ble_eq_true rfl) hn) rfl ?_
    refine x_iload_n 1 dX15_entry_40 rfl rfl rfl ?_
    refine x_iconst 1 (z := 1) dX15_entry_41 rfl (by decide) rfl ?_
    refine x_iadd dX15_entry_42 rfl ?_
    refine y_iald (z := w 57 (b_i (a1 + 1))) dX15_entry_43 ⟨2001, i57, e1⟩ rfl rfl ?_
    refine x_icmp_ge (t := 51) 7 dX15_entry_44 rfl rfl (b_ite h (fun hc h => ?_) (fun hc h => ?_))
    · refine x_iconst (-1) (z := (-1)) dX15_entry_51 rfl (by decide) rfl ?_
      exact y_iret dX15_entry_52 rfl h
    · refine x_iload_n 3 dX15_entry_47 rfl rfl rfl ?_
      refine x_goto 4 (q := 52) dX15_entry_48 rfl ?_
      exact y_iret dX15_entry_52 rfl h
  · refine x_aload_n 0 dX15_entry_19 rfl rfl rfl rfl rfl ?_
    refine y_getF 30 7 (c := 14) (z := 60) dX15_entry_20 i53 rfl in_X15 q1040 rfl rfl rfl fn_53_7 (Nat.le_trans (Nat.le_of_ble_eq_true rfl) hn) rfl ?_
    refine x_iload_n 3 dX15_entry_23 rfl rfl rfl ?_
    obtain ⟨e2, h⟩ := h
    refine y_iald (z := w 60 a3) dX15_entry_24 ⟨12000, i60, e2⟩ rfl rfl ?_
    refine x_iload_n 2 dX15_entry_25 rfl rfl rfl ?_
    refine x_icmp_eq (t := 35) 9 dX15_entry_26 rfl rfl (b_ite h (fun hc h => ?_) (fun hc h => ?_))
    · refine x_iload_n 3 dX15_entry_35 rfl rfl rfl ?_
      refine x_aload_n 0 dX15_entry_36 rfl rfl rfl rfl rfl ?_
      refine y_getF 21 3 (c := 14) (z := 57) dX15_entry_37 i53 rfl in_X15 q1029 rfl rfl rfl fn_53_3 (Nat.le_trans (Nat.le_of_ble_eq_true rfl) hn) rfl ?_
      refine x_iload_n 1 dX15_entry_40 rfl rfl rfl ?_
      refine x_iconst 1 (z := 1) dX15_entry_41 rfl (by decide) rfl ?_
      refine x_iadd dX15_entry_42 rfl ?_
      refine y_iald (z := w 57 (b_i (a1 + 1))) dX15_entry_43 ⟨2001, i57, e1⟩ rfl rfl ?_
      refine x_icmp_ge (t := 51) 7 dX15_entry_44 rfl rfl (b_ite h (fun hc h => ?_) (fun hc h => ?_))
      · refine x_iconst (-1) (z := (-1)) dX15_entry_51 rfl (by decide) rfl ?_
        exact y_iret dX15_entry_52 rfl h
      · refine x_iload_n 3 dX15_entry_47 rfl rfl rfl ?_
        refine x_goto 4 (q := 52) dX15_entry_48 rfl ?_
        exact y_iret dX15_entry_52 rfl h
    · refine x_iinc 3 1 (ls' := [(2, 53), (0, a1), (0, a2), (0, b_i (a3 + 1))]) dX15_entry_29 rfl rfl rfl rfl ?_
      refine x_goto (-25) (q := 7) dX15_entry_32 rfl ?_
      exact x_fg (fgk (fgk (fgk (fgk (fg0))))) h
theorem rX15_instruction {d n : Nat} {w : bW} {Q : Int → bW → Prop} {X : String → bW → Prop} (hn : 143 ≤ n) (a1 : Int) (a2 : Int) (a3 : Int) (a4 : Int) (h : (0 ≤ b_i ((w 53 13) + 0) ∧ b_i ((w 53 13) + 0) < 160000) ∧ ((0 ≤ b_i ((w 53 13) + 1) ∧ b_i ((w 53 13) + 1) < 160000) ∧ ((0 ≤ b_i ((w 53 13) + 2) ∧ b_i ((w 53 13) + 2) < 160000) ∧ ((0 ≤ b_i ((w 53 13) + 3) ∧ b_i ((w 53 13) + 3) < 160000) ∧ ((0 ≤ b_i ((w 53 13) + 4) ∧ b_i ((w 53 13) + 4) < 160000) ∧ (Q (w 53 13) (b_up (b_up (b_up (b_up (b_up (b_up w 64 (b_i ((w 53 13) + 0)) a1) 64 (b_i ((w 53 13) + 1)) a2) 64 (b_i ((w 53 13) + 2)) a3) 64 (b_i ((w 53 13) + 3)) a4) 64 (b_i ((w 53 13) + 4)) 0) 53 13 (b_i ((w 53 13) + 5))))))))) : b_K (d + 1) mX15_instruction [(2, 53), (0, a1), (0, a2), (0, a3), (0, a4)] n w Q X := by
  have i53 := iz53 (Nat.le_trans (Nat.le_of_ble_eq_true rfl) hn)
  have i64 := iz64 (Nat.le_trans (Nat.le_of_ble_eq_true rfl) hn)
  refine k_of (by decide) rfl rfl rfl (ls := [(2, 53), (0, a1), (0, a2), (0, a3), (0, a4), (9, 0)]) rfl ?_
  refine x_aload_n 0 dX15_instruction_0 rfl rfl rfl rfl rfl ?_
  refine y_get 48 13 (c := 14) (z := w 53 13) dX15_instruction_1 i53 rfl in_X15 q1058 rfl rfl rfl rfl rfl ?_
  refine x_istore 5 (ls' := [(2, 53), (0, a1), (0, a2), (0, a3), (0, a4), (0, w 53 13)]) dX15_instruction_4 rfl rfl rfl ?_
  refine x_aload_n 0 dX15_instruction_6 rfl rfl rfl rfl rfl ?_
  refine y_getF 45 12 (c := 14) (z := 64) dX15_instruction_7 i53 rfl in_X15 q1055 rfl rfl rfl fn_53_12 (Nat.le_trans (Nat.le_of_ble_eq_true rfl) hn) rfl ?_
  refine x_iload 5 dX15_instruction_10 rfl rfl ?_
  refine x_iconst 0 (z := 0) dX15_instruction_12 rfl (by decide) rfl ?_
  refine x_iadd dX15_instruction_13 rfl ?_
  refine x_iload_n 1 dX15_instruction_14 rfl rfl rfl ?_
  obtain ⟨e1, h⟩ := h
  refine y_iast (x' := a1) dX15_instruction_15 ⟨160000, i64, e1⟩ rfl rfl ?_
  refine x_aload_n 0 dX15_instruction_16 rfl rfl rfl rfl rfl ?_
  refine y_getF 45 12 (c := 14) (z := 64) dX15_instruction_17 i53 rfl in_X15 q1055 rfl rfl rfl fn_53_12 (Nat.le_trans (Nat.le_of_ble_eq_true rfl) hn) rfl ?_
  refine x_iload 5 dX15_instruction_20 rfl rfl ?_
  refine x_iconst 1 (z := 1) dX15_instruction_22 rfl (by decide) rfl ?_
  refine x_iadd dX15_instruction_23 rfl ?_
  refine x_iload_n 2 dX15_instruction_24 rfl rfl rfl ?_
  obtain ⟨e2, h⟩ := h
  refine y_iast (x' := a2) dX15_instruction_25 ⟨160000, i64, e2⟩ rfl rfl ?_
  refine x_aload_n 0 dX15_instruction_26 rfl rfl rfl rfl rfl ?_
  refine y_getF 45 12 (c := 14) (z := 64) dX15_instruction_27 i53 rfl in_X15 q1055 rfl rfl rfl fn_53_12 (Nat.le_trans (Nat.le_of_ble_eq_true rfl) hn) rfl ?_
  refine x_iload 5 dX15_instruction_30 rfl rfl ?_
  refine x_iconst 2 (z := 2) dX15_instruction_32 rfl (by decide) rfl ?_
  refine x_iadd dX15_instruction_33 rfl ?_
  refine x_iload_n 3 dX15_instruction_34 rfl rfl rfl ?_
  obtain ⟨e3, h⟩ := h
  refine y_iast (x' := a3) dX15_instruction_35 ⟨160000, i64, e3⟩ rfl rfl ?_
  refine x_aload_n 0 dX15_instruction_36 rfl rfl rfl rfl rfl ?_
  refine y_getF 45 12 (c := 14) (z := 64) dX15_instruction_37 i53 rfl in_X15 q1055 rfl rfl rfl fn_53_12 (Nat.le_trans (Nat.le_of_ble_eq_true rfl) hn) rfl ?_
  refine x_iload 5 dX15_instruction_40 rfl rfl ?_
  refine x_iconst 3 (z := 3) dX15_instruction_42 rfl (by decide) rfl ?_
  refine x_iadd dX15_instruction_43 rfl ?_
  refine x_iload 4 dX15_instruction_44 rfl rfl ?_
  obtain ⟨e4, h⟩ := h
  refine y_iast (x' := a4) dX15_instruction_46 ⟨160000, i64, e4⟩ rfl rfl ?_
  refine x_aload_n 0 dX15_instruction_47 rfl rfl rfl rfl rfl ?_
  refine y_getF 45 12 (c := 14) (z := 64) dX15_instruction_48 i53 rfl in_X15 q1055 rfl rfl rfl fn_53_12 (Nat.le_trans (Nat.le_of_ble_eq_true rfl) hn) rfl ?_
  refine x_iload 5 dX15_instruction_51 rfl rfl ?_
  refine x_iconst 4 (z := 4) dX15_instruction_53 rfl (by decide) rfl ?_
  refine x_iadd dX15_instruction_54 rfl ?_
  refine x_iconst 0 (z := 0) dX15_instruction_55 rfl (by decide) rfl ?_
  obtain ⟨e5, h⟩ := h
  refine y_iast (x' := 0) dX15_instruction_56 ⟨160000, i64, e5⟩ rfl rfl ?_
  refine x_aload_n 0 dX15_instruction_57 rfl rfl rfl rfl rfl ?_
  refine x_dup dX15_instruction_58 rfl rfl ?_
  refine y_get 48 13 (c := 14) (z := w 53 13) dX15_instruction_59 i53 rfl in_X15 q1058 rfl rfl rfl rfl rfl ?_
  refine x_iconst 5 (z := 5) dX15_instruction_62 rfl (by decide) rfl ?_
  refine x_iadd dX15_instruction_63 rfl ?_
  refine x_put 48 13 (c := 14) dX15_instruction_64 i53 rfl in_X15 tyX15_ok nmX15 q1058 rfl rfl rfl (Or.inl rfl) (Or.inl ⟨rfl, rfl⟩) rfl ?_
  refine x_iload 5 dX15_instruction_67 rfl rfl ?_
  exact y_iret dX15_instruction_69 rfl h
theorem rX15_drop {d n : Nat} {w : bW} {Q : Int → bW → Prop} {X : String → bW → Prop} (hn : 54 ≤ n) (a1 : Int) (a2 : Int) (a3 : Int) (h : Q 0 (b_up (b_up (b_up w 53 6 a1) 53 11 a2) 53 13 a3)) : b_K (d + 1) mX15_drop [(2, 53), (0, a1), (0, a2), (0, a3)] n w Q X := by
  have i53 := iz53 (Nat.le_trans (Nat.le_of_ble_eq_true rfl) hn)
  refine k_of (by decide) rfl rfl rfl (ls := [(2, 53), (0, a1), (0, a2), (0, a3)]) rfl ?_
  refine x_aload_n 0 dX15_drop_0 rfl rfl rfl rfl rfl ?_
  refine x_iload_n 1 dX15_drop_1 rfl rfl rfl ?_
  refine x_put 52 6 (c := 14) dX15_drop_2 i53 rfl in_X15 tyX15_ok nmX15 q1037 rfl rfl rfl (Or.inl rfl) (Or.inl ⟨rfl, rfl⟩) rfl ?_
  refine x_aload_n 0 dX15_drop_5 rfl rfl rfl rfl rfl ?_
  refine x_iload_n 2 dX15_drop_6 rfl rfl rfl ?_
  refine x_put 55 11 (c := 14) dX15_drop_7 i53 rfl in_X15 tyX15_ok nmX15 q1052 rfl rfl rfl (Or.inl rfl) (Or.inl ⟨rfl, rfl⟩) rfl ?_
  refine x_aload_n 0 dX15_drop_10 rfl rfl rfl rfl rfl ?_
  refine x_iload_n 3 dX15_drop_11 rfl rfl rfl ?_
  refine x_put 48 13 (c := 14) dX15_drop_12 i53 rfl in_X15 tyX15_ok nmX15 q1058 rfl rfl rfl (Or.inl rfl) (Or.inl ⟨rfl, rfl⟩) rfl ?_
  exact y_vret dX15_drop_15 rfl h
end RulesX15
