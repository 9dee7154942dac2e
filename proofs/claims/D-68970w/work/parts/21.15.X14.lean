section RulesX14
set_option maxRecDepth 100000
theorem rX14_keep {d n : Nat} {w : bW} {Q : Int → bW → Prop} {X : String → bW → Prop} (hn : 143 ≤ n) (a1 : Int) (a2 : Int) (a3 : Int) (h : b_K d mX14_find [(2, 50), (2, a1), (0, a2), (0, a3)] n w (fun r1 w2 => if 0 ≤ r1 then (Q r1 w2) else ((0 ≤ w2 50 2 ∧ w2 50 2 < 12001) ∧ (∃ N4 : Nat, b_is n a1 1 1 N4 ∧ ((a1 ≠ 51 ∧ (0 : Int) ≤ a2 ∧ (0 : Int) ≤ w2 52 (w2 50 2) ∧ (0 : Int) ≤ b_i (a3 - a2) ∧ (a2 : Int) + b_i (a3 - a2) ≤ N4 ∧ (w2 52 (w2 50 2) : Int) + b_i (a3 - a2) ≤ 90000) ∧ ((0 ≤ b_i ((w2 50 2) + 1) ∧ b_i ((w2 50 2) + 1) < 12001) ∧ (Q (w2 50 2) (b_up (b_cp (b_up w2 50 2 (b_i ((w2 50 2) + 1))) a1 a2 51 (w2 52 (w2 50 2)) (b_i (a3 - a2))) 52 (b_i ((w2 50 2) + 1)) (b_i ((b_i ((w2 52 (w2 50 2)) + a3)) - a2))))))))) X) : b_K (d + 1) mX14_keep [(2, 50), (2, a1), (0, a2), (0, a3)] n w Q X := by
  have i50 := iz50 (Nat.le_trans (Nat.le_of_ble_eq_true rfl) hn)
  have i51 := iz51 (Nat.le_trans (Nat.le_of_ble_eq_true rfl) hn)
  have i52 := iz52 (Nat.le_trans (Nat.le_of_ble_eq_true rfl) hn)
  refine k_of (by decide) rfl rfl rfl (ls := [(2, 50), (2, a1), (0, a2), (0, a3), (9, 0)]) rfl ?_
  refine x_aload_n 0 dX14_keep_0 rfl rfl rfl rfl rfl ?_
  refine x_aload_n 1 dX14_keep_1 rfl rfl rfl rfl rfl ?_
  refine x_iload_n 2 dX14_keep_2 rfl rfl rfl ?_
  refine x_iload_n 3 dX14_keep_3 rfl rfl rfl ?_
  refine y_Vi 43 (M := mX14_find) (As := [(2, a1), (0, a2), (0, a3)]) (st := []) dX14_keep_4 i50 rfl q1879 q1880 q1881 q381 q1882 rfl hmX14_find rfl rfl rfl rfl rfl rfl rfl rfl (k_mono h (fun r1 w2 h => ?_))
  refine x_istore 4 (ls' := [(2, 50), (2, a1), (0, a2), (0, a3), (0, r1)]) dX14_keep_7 rfl rfl rfl ?_
  refine x_iload 4 dX14_keep_9 rfl rfl ?_
  refine x_if_ge (t := 66) 55 dX14_keep_11 rfl rfl (b_ite h (fun hc h => ?_) (fun hc h => ?_))
  · refine x_iload 4 dX14_keep_66 rfl rfl ?_
    exact y_iret dX14_keep_68 rfl h
  · refine x_aload_n 0 dX14_keep_14 rfl rfl rfl rfl rfl ?_
    refine x_dup dX14_keep_15 rfl rfl ?_
    refine y_get 32 2 (c := 13) (z := w2 50 2) dX14_keep_16 i50 rfl in_X14 q1004 rfl rfl rfl rfl rfl ?_
    refine x_dup_x1 dX14_keep_19 rfl rfl rfl ?_
    refine x_iconst 1 (z := 1) dX14_keep_20 rfl (by decide) rfl ?_
    refine x_iadd dX14_keep_21 rfl ?_
    refine x_put 32 2 (c := 13) dX14_keep_22 i50 rfl in_X14 tyX14_ok nmX14 q1004 rfl rfl rfl (Or.inl rfl) (Or.inl ⟨rfl, rfl⟩) rfl ?_
    refine x_istore 4 (ls' := [(2, 50), (2, a1), (0, a2), (0, a3), (0, w2 50 2)]) dX14_keep_25 rfl rfl rfl ?_
    refine x_aload_n 1 dX14_keep_27 rfl rfl rfl rfl rfl ?_
    refine x_iload_n 2 dX14_keep_28 rfl rfl rfl ?_
    refine x_aload_n 0 dX14_keep_29 rfl rfl rfl rfl rfl ?_
    refine y_getF 10 0 (c := 13) (z := 51) dX14_keep_30 i50 rfl in_X14 q1000 rfl rfl rfl fn_50_0 (Nat.le_trans (Nat.le_of_ble_eq_true rfl) hn) rfl ?_
    refine x_aload_n 0 dX14_keep_33 rfl rfl rfl rfl rfl ?_
    refine y_getF 16 1 (c := 13) (z := 52) dX14_keep_34 i50 rfl in_X14 q1002 rfl rfl rfl fn_50_1 (Nat.le_trans (Nat.le_of_ble_eq_true rfl) hn) rfl ?_
    refine x_iload 4 dX14_keep_37 rfl rfl ?_
    obtain ⟨e3, h⟩ := h
    refine y_iald (z := w2 52 (w2 50 2)) dX14_keep_39 ⟨12001, i52, e3⟩ rfl rfl ?_
    refine x_iload_n 3 dX14_keep_40 rfl rfl rfl ?_
    refine x_iload_n 2 dX14_keep_41 rfl rfl rfl ?_
    refine x_isub dX14_keep_42 rfl ?_
    obtain ⟨N4, e5, h⟩ := h
    obtain ⟨e6, h⟩ := h
    refine x_copyi 47 dX14_keep_43 q1891 q1893 q1892 q400 e5 i51 e6.1 (by decide) e6.2.1 e6.2.2.1 e6.2.2.2.1 e6.2.2.2.2.1 e6.2.2.2.2.2 (Nat.le_add_left 1 d) rfl rfl ?_
    refine x_aload_n 0 dX14_keep_46 rfl rfl rfl rfl rfl ?_
    refine y_getF 16 1 (c := 13) (z := 52) dX14_keep_47 i50 rfl in_X14 q1002 rfl rfl rfl fn_50_1 (Nat.le_trans (Nat.le_of_ble_eq_true rfl) hn) rfl ?_
    refine x_aload_n 0 dX14_keep_50 rfl rfl rfl rfl rfl ?_
    refine y_get 32 2 (c := 13) (z := b_i ((w2 50 2) + 1)) dX14_keep_51 i50 rfl in_X14 q1004 rfl rfl rfl rfl rfl ?_
    refine x_aload_n 0 dX14_keep_54 rfl rfl rfl rfl rfl ?_
    refine y_getF 16 1 (c := 13) (z := 52) dX14_keep_55 i50 rfl in_X14 q1002 rfl rfl rfl fn_50_1 (Nat.le_trans (Nat.le_of_ble_eq_true rfl) hn) rfl ?_
    refine x_iload 4 dX14_keep_58 rfl rfl ?_
    refine y_iald (z := w2 52 (w2 50 2)) dX14_keep_60 ⟨12001, i52, e3⟩ rfl rfl ?_
    refine x_iload_n 3 dX14_keep_61 rfl rfl rfl ?_
    refine x_iadd dX14_keep_62 rfl ?_
    refine x_iload_n 2 dX14_keep_63 rfl rfl rfl ?_
    refine x_isub dX14_keep_64 rfl ?_
    obtain ⟨e7, h⟩ := h
    refine y_iast (x' := b_i ((b_i ((w2 52 (w2 50 2)) + a3)) - a2)) dX14_keep_65 ⟨12001, i52, e7⟩ rfl rfl ?_
    refine x_iload 4 dX14_keep_66 rfl rfl ?_
    exact y_iret dX14_keep_68 rfl h
abbrev LX14_find_3 (d n : Nat) (Q : Int → bW → Prop) (X : String → bW → Prop) (a1 : Int) (a2 : Int) (a3 : Int) (a4 : Int) (w : bW) : Prop := b_Y (d + 1) mX14_find n Q X 3 [(2, 50), (2, a1), (0, a2), (0, a3), (0, a4)] [] w
theorem rX14_find {d n : Nat} {w : bW} {Q : Int → bW → Prop} {X : String → bW → Prop} (hn : 51 ≤ n) (a1 : Int) (a2 : Int) (a3 : Int) (h : LX14_find_3 d n Q X a1 a2 a3 0 w) : b_K (d + 1) mX14_find [(2, 50), (2, a1), (0, a2), (0, a3)] n w Q X := by
  refine k_of (by decide) rfl rfl rfl (ls := [(2, 50), (2, a1), (0, a2), (0, a3), (9, 0)]) rfl ?_
  refine x_iconst 0 (z := 0) dX14_find_0 rfl (by decide) rfl ?_
  refine x_istore 4 (ls' := [(2, 50), (2, a1), (0, a2), (0, a3), (0, 0)]) dX14_find_1 rfl rfl rfl ?_
  exact x_fg (fgk (fgk (fgk (fgk (fgk (fg0)))))) h
theorem sX14_find_3 {d n : Nat} {w : bW} {Q : Int → bW → Prop} {X : String → bW → Prop} (hn : 51 ≤ n) (a1 : Int) (a2 : Int) (a3 : Int) (a4 : Int) (h : if w 50 2 ≤ a4 then (if w 50 2 ≤ a4 then (Q (-1) w) else (Q a4 w)) else (b_K d mX14_is [(2, 50), (0, a4), (2, a1), (0, a2), (0, a3)] n w (fun r1 w2 => if r1 ≠ 0 then (if w2 50 2 ≤ a4 then (Q (-1) w2) else (Q a4 w2)) else (LX14_find_3 d n Q X a1 a2 a3 (b_i (a4 + 1)) w2)) X)) : LX14_find_3 d n Q X a1 a2 a3 a4 w := by
  have i50 := iz50 (Nat.le_trans (Nat.le_of_ble_eq_true rfl) hn)
  refine x_iload 4 dX14_find_3 rfl rfl ?_
  refine x_aload_n 0 dX14_find_5 rfl rfl rfl rfl rfl ?_
  refine y_get 32 2 (c := 13) (z := w 50 2) dX14_find_6 i50 rfl in_X14 q1004 rfl rfl rfl rfl rfl ?_
  refine x_icmp_ge (t := 30) 21 dX14_find_9 rfl rfl (b_ite h (fun hc h => ?_) (fun hc h => ?_))
  · refine x_iload 4 dX14_find_30 rfl rfl ?_
    refine x_aload_n 0 dX14_find_32 rfl rfl rfl rfl rfl ?_
    refine y_get 32 2 (c := 13) (z := w 50 2) dX14_find_33 i50 rfl in_X14 q1004 rfl rfl rfl rfl rfl ?_
    refine x_icmp_ge (t := 44) 8 dX14_find_36 rfl rfl (b_ite h (fun hc h => ?_) (fun hc h => ?_))
    · refine x_iconst (-1) (z := (-1)) dX14_find_44 rfl (by decide) rfl ?_
      exact y_iret dX14_find_45 rfl h
    · refine x_iload 4 dX14_find_39 rfl rfl ?_
      refine x_goto 4 (q := 45) dX14_find_41 rfl ?_
      exact y_iret dX14_find_45 rfl h
  · refine x_aload_n 0 dX14_find_12 rfl rfl rfl rfl rfl ?_
    refine x_iload 4 dX14_find_13 rfl rfl ?_
    refine x_aload_n 1 dX14_find_15 rfl rfl rfl rfl rfl ?_
    refine x_iload_n 2 dX14_find_16 rfl rfl rfl ?_
    refine x_iload_n 3 dX14_find_17 rfl rfl rfl ?_
    refine y_Vi 36 (M := mX14_is) (As := [(0, a4), (2, a1), (0, a2), (0, a3)]) (st := []) dX14_find_18 i50 rfl q1883 q1885 qs27 q381 q1886 rfl hmX14_is rfl rfl rfl rfl rfl rfl rfl rfl (k_mono h (fun r1 w2 h => ?_))
    refine x_if_ne (t := 30) 9 dX14_find_21 rfl rfl (b_ite h (fun hc h => ?_) (fun hc h => ?_))
    · refine x_iload 4 dX14_find_30 rfl rfl ?_
      refine x_aload_n 0 dX14_find_32 rfl rfl rfl rfl rfl ?_
      refine y_get 32 2 (c := 13) (z := w2 50 2) dX14_find_33 i50 rfl in_X14 q1004 rfl rfl rfl rfl rfl ?_
      refine x_icmp_ge (t := 44) 8 dX14_find_36 rfl rfl (b_ite h (fun hc h => ?_) (fun hc h => ?_))
      · refine x_iconst (-1) (z := (-1)) dX14_find_44 rfl (by decide) rfl ?_
        exact y_iret dX14_find_45 rfl h
      · refine x_iload 4 dX14_find_39 rfl rfl ?_
        refine x_goto 4 (q := 45) dX14_find_41 rfl ?_
        exact y_iret dX14_find_45 rfl h
    · refine x_iinc 4 1 (ls' := [(2, 50), (2, a1), (0, a2), (0, a3), (0, b_i (a4 + 1))]) dX14_find_24 rfl rfl rfl rfl ?_
      refine x_goto (-24) (q := 3) dX14_find_27 rfl ?_
      exact x_fg (fgk (fgk (fgk (fgk (fgk (fg0)))))) h
abbrev LX14_is_26 (d n : Nat) (Q : Int → bW → Prop) (X : String → bW → Prop) (a1 : Int) (a2 : Int) (a3 : Int) (a5 : Int) (a6 : Int) (w : bW) : Prop := b_Y (d + 1) mX14_is n Q X 26 [(2, 50), (0, a1), (2, a2), (0, a3), (9, 0), (0, a5), (0, a6)] [] w
theorem rX14_is {d n : Nat} {w : bW} {Q : Int → bW → Prop} {X : String → bW → Prop} (hn : 143 ≤ n) (a1 : Int) (a2 : Int) (a3 : Int) (a4 : Int) (h : b_K d mX14_length [(2, 50), (0, a1)] n w (fun r1 w2 => if b_i (a4 - a3) ≠ r1 then (LX14_is_26 d n Q X a1 a2 a3 r1 (b_i (r1 + 1)) w2) else (LX14_is_26 d n Q X a1 a2 a3 r1 0 w2)) X) : b_K (d + 1) mX14_is [(2, 50), (0, a1), (2, a2), (0, a3), (0, a4)] n w Q X := by
  have i50 := iz50 (Nat.le_trans (Nat.le_of_ble_eq_true rfl) hn)
  refine k_of (by decide) rfl rfl rfl (ls := [(2, 50), (0, a1), (2, a2), (0, a3), (0, a4), (9, 0), (9, 0)]) rfl ?_
  refine x_aload_n 0 dX14_is_0 rfl rfl rfl rfl rfl ?_
  refine x_iload_n 1 dX14_is_1 rfl rfl rfl ?_
  refine y_Vi 40 (M := mX14_length) (As := [(0, a1)]) (st := []) dX14_is_2 i50 rfl q1887 q1888 q1889 q381 q1890 rfl hmX14_length rfl rfl rfl rfl rfl rfl rfl rfl (k_mono h (fun r1 w2 h => ?_))
  refine x_istore 5 (ls' := [(2, 50), (0, a1), (2, a2), (0, a3), (0, a4), (0, r1), (9, 0)]) dX14_is_5 rfl rfl rfl ?_
  refine x_iload 4 dX14_is_7 rfl rfl ?_
  refine x_iload_n 3 dX14_is_9 rfl rfl rfl ?_
  refine x_isub dX14_is_10 rfl ?_
  refine x_iload 5 dX14_is_11 rfl rfl ?_
  refine x_icmp_ne (t := 20) 7 dX14_is_13 rfl rfl (b_ite h (fun hc h => ?_) (fun hc h => ?_))
  · refine x_iload 5 dX14_is_20 rfl rfl ?_
    refine x_iconst 1 (z := 1) dX14_is_22 rfl (by decide) rfl ?_
    refine x_iadd dX14_is_23 rfl ?_
    refine x_istore 6 (ls' := [(2, 50), (0, a1), (2, a2), (0, a3), (0, a4), (0, r1), (0, b_i (r1 + 1))]) dX14_is_24 rfl rfl rfl ?_
    exact x_fg (fgk (fgk (fgk (fgk (fgd (fgk (fgk (fg0)))))))) h
  · refine x_iconst 0 (z := 0) dX14_is_16 rfl (by decide) rfl ?_
    refine x_goto 7 (q := 24) dX14_is_17 rfl ?_
    refine x_istore 6 (ls' := [(2, 50), (0, a1), (2, a2), (0, a3), (0, a4), (0, r1), (0, 0)]) dX14_is_24 rfl rfl rfl ?_
    exact x_fg (fgk (fgk (fgk (fgk (fgd (fgk (fgk (fg0)))))))) h
theorem sX14_is_26 {d n : Nat} {w : bW} {Q : Int → bW → Prop} {X : String → bW → Prop} (hn : 143 ≤ n) (a1 : Int) (a2 : Int) (a3 : Int) (a5 : Int) (a6 : Int) (h : if a5 ≤ a6 then (if a6 ≠ a5 then (Q 0 w) else (Q 1 w)) else ((0 ≤ a1 ∧ a1 < 12001) ∧ ((0 ≤ b_i ((w 52 a1) + a6) ∧ b_i ((w 52 a1) + a6) < 90000) ∧ (b_ai n a2 1 1 (b_i (a3 + a6)) ∧ (if w 51 (b_i ((w 52 a1) + a6)) ≠ w a2 (b_i (a3 + a6)) then (if a6 ≠ a5 then (Q 0 w) else (Q 1 w)) else (LX14_is_26 d n Q X a1 a2 a3 a5 (b_i (a6 + 1)) w)))))) : LX14_is_26 d n Q X a1 a2 a3 a5 a6 w := by
  have i50 := iz50 (Nat.le_trans (Nat.le_of_ble_eq_true rfl) hn)
  have i51 := iz51 (Nat.le_trans (Nat.le_of_ble_eq_true rfl) hn)
  have i52 := iz52 (Nat.le_trans (Nat.le_of_ble_eq_true rfl) hn)
  refine x_iload 6 dX14_is_26 rfl rfl ?_
  refine x_iload 5 dX14_is_28 rfl rfl ?_
  refine x_icmp_ge (t := 62) 32 dX14_is_30 rfl rfl (b_ite h (fun hc h => ?_) (fun hc h => ?_))
  · refine x_iload 6 dX14_is_62 rfl rfl ?_
    refine x_iload 5 dX14_is_64 rfl rfl ?_
    refine x_icmp_ne (t := 73) 7 dX14_is_66 rfl rfl (b_ite h (fun hc h => ?_) (fun hc h => ?_))
    · refine x_iconst 0 (z := 0) dX14_is_73 rfl (by decide) rfl ?_
      exact y_zret dX14_is_74 rfl (by decide) h
    · refine x_iconst 1 (z := 1) dX14_is_69 rfl (by decide) rfl ?_
      refine x_goto 4 (q := 74) dX14_is_70 rfl ?_
      exact y_zret dX14_is_74 rfl (by decide) h
  · refine x_aload_n 0 dX14_is_33 rfl rfl rfl rfl rfl ?_
    refine y_getF 10 0 (c := 13) (z := 51) dX14_is_34 i50 rfl in_X14 q1000 rfl rfl rfl fn_50_0 (Nat.le_trans (Nat.le_of_ble_eq_true rfl) hn) rfl ?_
    refine x_aload_n 0 dX14_is_37 rfl rfl rfl rfl rfl ?_
    refine y_getF 16 1 (c := 13) (z := 52) dX14_is_38 i50 rfl in_X14 q1002 rfl rfl rfl fn_50_1 (Nat.le_trans (Nat.le_of_ble_eq_true rfl) hn) rfl ?_
    refine x_iload_n 1 dX14_is_41 rfl rfl rfl ?_
    obtain ⟨e1, h⟩ := h
    refine y_iald (z := w 52 a1) dX14_is_42 ⟨12001, i52, e1⟩ rfl rfl ?_
    refine x_iload 6 dX14_is_43 rfl rfl ?_
    refine x_iadd dX14_is_45 rfl ?_
    obtain ⟨e2, h⟩ := h
    refine y_bald (z := w 51 (b_i ((w 52 a1) + a6))) dX14_is_46 ⟨90000, i51, e2⟩ rfl rfl ?_
    refine x_aload_n 2 dX14_is_47 rfl rfl rfl rfl rfl ?_
    refine x_iload_n 3 dX14_is_48 rfl rfl rfl ?_
    refine x_iload 6 dX14_is_49 rfl rfl ?_
    refine x_iadd dX14_is_51 rfl ?_
    obtain ⟨e3, h⟩ := h
    refine y_bald (z := w a2 (b_i (a3 + a6))) dX14_is_52 e3 rfl rfl ?_
    refine x_icmp_ne (t := 62) 9 dX14_is_53 rfl rfl (b_ite h (fun hc h => ?_) (fun hc h => ?_))
    · refine x_iload 6 dX14_is_62 rfl rfl ?_
      refine x_iload 5 dX14_is_64 rfl rfl ?_
      refine x_icmp_ne (t := 73) 7 dX14_is_66 rfl rfl (b_ite h (fun hc h => ?_) (fun hc h => ?_))
      · refine x_iconst 0 (z := 0) dX14_is_73 rfl (by decide) rfl ?_
        exact y_zret dX14_is_74 rfl (by decide) h
      · refine x_iconst 1 (z := 1) dX14_is_69 rfl (by decide) rfl ?_
        refine x_goto 4 (q := 74) dX14_is_70 rfl ?_
        exact y_zret dX14_is_74 rfl (by decide) h
    · refine x_iinc 6 1 (ls' := [(2, 50), (0, a1), (2, a2), (0, a3), (9, 0), (0, a5), (0, b_i (a6 + 1))]) dX14_is_56 rfl rfl rfl rfl ?_
      refine x_goto (-33) (q := 26) dX14_is_59 rfl ?_
      exact x_fg (fgk (fgk (fgk (fgk (fgk (fgk (fgk (fg0)))))))) h
theorem rX14_length {d n : Nat} {w : bW} {Q : Int → bW → Prop} {X : String → bW → Prop} (hn : 143 ≤ n) (a1 : Int) (h : (0 ≤ b_i (a1 + 1) ∧ b_i (a1 + 1) < 12001) ∧ ((0 ≤ a1 ∧ a1 < 12001) ∧ (Q (b_i ((w 52 (b_i (a1 + 1))) - (w 52 a1))) w))) : b_K (d + 1) mX14_length [(2, 50), (0, a1)] n w Q X := by
  have i50 := iz50 (Nat.le_trans (Nat.le_of_ble_eq_true rfl) hn)
  have i52 := iz52 (Nat.le_trans (Nat.le_of_ble_eq_true rfl) hn)
  refine k_of (by decide) rfl rfl rfl (ls := [(2, 50), (0, a1)]) rfl ?_
  refine x_aload_n 0 dX14_length_0 rfl rfl rfl rfl rfl ?_
  refine y_getF 16 1 (c := 13) (z := 52) dX14_length_1 i50 rfl in_X14 q1002 rfl rfl rfl fn_50_1 (Nat.le_trans (Nat.le_of_ble_eq_true rfl) hn) rfl ?_
  refine x_iload_n 1 dX14_length_4 rfl rfl rfl ?_
  refine x_iconst 1 (z := 1) dX14_length_5 rfl (by decide) rfl ?_
  refine x_iadd dX14_length_6 rfl ?_
  obtain ⟨e1, h⟩ := h
  refine y_iald (z := w 52 (b_i (a1 + 1))) dX14_length_7 ⟨12001, i52, e1⟩ rfl rfl ?_
  refine x_aload_n 0 dX14_length_8 rfl rfl rfl rfl rfl ?_
  refine y_getF 16 1 (c := 13) (z := 52) dX14_length_9 i50 rfl in_X14 q1002 rfl rfl rfl fn_50_1 (Nat.le_trans (Nat.le_of_ble_eq_true rfl) hn) rfl ?_
  refine x_iload_n 1 dX14_length_12 rfl rfl rfl ?_
  obtain ⟨e2, h⟩ := h
  refine y_iald (z := w 52 a1) dX14_length_13 ⟨12001, i52, e2⟩ rfl rfl ?_
  refine x_isub dX14_length_14 rfl ?_
  exact y_iret dX14_length_15 rfl h
end RulesX14
