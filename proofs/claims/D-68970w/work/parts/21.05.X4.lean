section RulesX4
set_option maxRecDepth 100000
theorem rX4_read {d n : Nat} {w : bW} {Q : Int → bW → Prop} {X : String → bW → Prop} (hn : 143 ≤ n) (a1 : Int) (a2 : Int) (h : b_K d mX5_begin [(2, 7), (2, a1), (0, a2)] n (b_up (b_up w 6 12 0) 6 13 (-1)) (fun r1 w2 => b_K d mX4_item [(2, 6), (0, 0)] n w2 (fun r3 w4 => if r3 < 0 then (if 0 ≤ w4 6 13 then (Q 0 w4) else (Q 1 w4)) else (if w4 7 2 = 0 then (if 0 ≤ w4 6 13 then (Q 0 w4) else (Q 1 w4)) else (b_K d mX4_refuse [(2, 6)] n w4 (fun r5 w6 => if 0 ≤ w6 6 13 then (Q 0 w6) else (Q 1 w6)) X))) X) X) : b_K (d + 1) mX4_read [(2, 6), (2, a1), (0, a2)] n w Q X := by
  have i6 := iz6 (Nat.le_trans (Nat.le_of_ble_eq_true rfl) hn)
  have i7 := iz7 (Nat.le_trans (Nat.le_of_ble_eq_true rfl) hn)
  refine k_of (by decide) rfl rfl rfl (ls := [(2, 6), (2, a1), (0, a2)]) rfl ?_
  refine x_aload_n 0 dX4_read_0 rfl rfl rfl rfl rfl ?_
  refine x_iconst 0 (z := 0) dX4_read_1 rfl (by decide) rfl ?_
  refine x_put 63 12 (c := 3) dX4_read_2 i6 rfl in_X4 tyX4_ok nmX4 q686 rfl rfl rfl (Or.inl rfl) (Or.inl ⟨rfl, rfl⟩) rfl ?_
  refine x_aload_n 0 dX4_read_5 rfl rfl rfl rfl rfl ?_
  refine x_iconst (-1) (z := (-1)) dX4_read_6 rfl (by decide) rfl ?_
  refine x_put 67 13 (c := 3) dX4_read_7 i6 rfl in_X4 tyX4_ok nmX4 q688 rfl rfl rfl (Or.inl rfl) (Or.inl ⟨rfl, rfl⟩) rfl ?_
  refine x_aload_n 0 dX4_read_10 rfl rfl rfl rfl rfl ?_
  refine y_getF 12 1 (c := 3) (z := 7) dX4_read_11 i6 rfl in_X4 q651 rfl rfl rfl fn_6_1 (Nat.le_trans (Nat.le_of_ble_eq_true rfl) hn) rfl ?_
  refine x_aload_n 1 dX4_read_14 rfl rfl rfl rfl rfl ?_
  refine x_iload_n 2 dX4_read_15 rfl rfl rfl ?_
  refine y_Vv 70 (M := mX5_begin) (As := [(2, a1), (0, a2)]) (st := []) dX4_read_16 i7 rfl q1679 q1680 q1681 q372 q1682 rfl hmX5_begin rfl rfl rfl rfl rfl rfl rfl (k_mono h (fun r1 w2 h => ?_))
  refine x_aload_n 0 dX4_read_19 rfl rfl rfl rfl rfl ?_
  refine x_iconst 0 (z := 0) dX4_read_20 rfl (by decide) rfl ?_
  refine y_Vi 74 (M := mX4_item) (As := [(0, 0)]) (st := []) dX4_read_21 i6 rfl q1731 q1733 qs11 q371 q1734 rfl hmX4_item rfl rfl rfl rfl rfl rfl rfl rfl (k_mono h (fun r3 w4 h => ?_))
  refine x_if_lt (t := 42) 18 dX4_read_24 rfl rfl (b_ite h (fun hc h => ?_) (fun hc h => ?_))
  · refine x_aload_n 0 dX4_read_42 rfl rfl rfl rfl rfl ?_
    refine y_get 67 13 (c := 3) (z := w4 6 13) dX4_read_43 i6 rfl in_X4 q688 rfl rfl rfl rfl rfl ?_
    refine x_if_ge (t := 53) 7 dX4_read_46 rfl rfl (b_ite h (fun hc h => ?_) (fun hc h => ?_))
    · refine x_iconst 0 (z := 0) dX4_read_53 rfl (by decide) rfl ?_
      exact y_zret dX4_read_54 rfl (by decide) h
    · refine x_iconst 1 (z := 1) dX4_read_49 rfl (by decide) rfl ?_
      refine x_goto 4 (q := 54) dX4_read_50 rfl ?_
      exact y_zret dX4_read_54 rfl (by decide) h
  · refine x_aload_n 0 dX4_read_27 rfl rfl rfl rfl rfl ?_
    refine y_getF 12 1 (c := 3) (z := 7) dX4_read_28 i6 rfl in_X4 q651 rfl rfl rfl fn_6_1 (Nat.le_trans (Nat.le_of_ble_eq_true rfl) hn) rfl ?_
    refine y_get 78 2 (c := 4) (z := w4 7 2) dX4_read_31 i7 rfl in_X5 q603 rfl rfl rfl rfl rfl ?_
    refine x_if_eq (t := 42) 8 dX4_read_34 rfl rfl (b_ite h (fun hc h => ?_) (fun hc h => ?_))
    · refine x_aload_n 0 dX4_read_42 rfl rfl rfl rfl rfl ?_
      refine y_get 67 13 (c := 3) (z := w4 6 13) dX4_read_43 i6 rfl in_X4 q688 rfl rfl rfl rfl rfl ?_
      refine x_if_ge (t := 53) 7 dX4_read_46 rfl rfl (b_ite h (fun hc h => ?_) (fun hc h => ?_))
      · refine x_iconst 0 (z := 0) dX4_read_53 rfl (by decide) rfl ?_
        exact y_zret dX4_read_54 rfl (by decide) h
      · refine x_iconst 1 (z := 1) dX4_read_49 rfl (by decide) rfl ?_
        refine x_goto 4 (q := 54) dX4_read_50 rfl ?_
        exact y_zret dX4_read_54 rfl (by decide) h
    · refine x_aload_n 0 dX4_read_37 rfl rfl rfl rfl rfl ?_
      refine y_Vi 81 (M := mX4_refuse) (As := []) (st := []) dX4_read_38 i6 rfl q1767 q1769 qs13 q371 q1770 rfl hmX4_refuse rfl rfl rfl rfl rfl rfl rfl rfl (k_mono h (fun r5 w6 h => ?_))
      refine x_pop dX4_read_41 rfl rfl ?_
      refine x_aload_n 0 dX4_read_42 rfl rfl rfl rfl rfl ?_
      refine y_get 67 13 (c := 3) (z := w6 6 13) dX4_read_43 i6 rfl in_X4 q688 rfl rfl rfl rfl rfl ?_
      refine x_if_ge (t := 53) 7 dX4_read_46 rfl rfl (b_ite h (fun hc h => ?_) (fun hc h => ?_))
      · refine x_iconst 0 (z := 0) dX4_read_53 rfl (by decide) rfl ?_
        exact y_zret dX4_read_54 rfl (by decide) h
      · refine x_iconst 1 (z := 1) dX4_read_49 rfl (by decide) rfl ?_
        refine x_goto 4 (q := 54) dX4_read_50 rfl ?_
        exact y_zret dX4_read_54 rfl (by decide) h
theorem rX4_item {d n : Nat} {w : bW} {Q : Int → bW → Prop} {X : String → bW → Prop} (hn : 143 ≤ n) (a1 : Int) (h : if w 7 2 = 2 ∨ w 7 2 = 3 ∨ w 7 2 = 4 then (b_K d mX4_leaf [(2, 6), (0, a1)] n w (fun r1 w2 => Q r1 w2) X) else (if w 7 2 = 5 then (b_K d mX4_application [(2, 6), (0, a1)] n w (fun r3 w4 => Q r3 w4) X) else (if w 7 2 = 123 then (b_K d mX4_sequence [(2, 6), (0, a1)] n w (fun r5 w6 => Q r5 w6) X) else ((b_K d mX4_refuse [(2, 6)] n w (fun r7 w8 => Q r7 w8) X))))) : b_K (d + 1) mX4_item [(2, 6), (0, a1)] n w Q X := by
  have i6 := iz6 (Nat.le_trans (Nat.le_of_ble_eq_true rfl) hn)
  have i7 := iz7 (Nat.le_trans (Nat.le_of_ble_eq_true rfl) hn)
  refine k_of (by decide) rfl rfl rfl (ls := [(2, 6), (0, a1)]) rfl ?_
  refine x_aload_n 0 dX4_item_0 rfl rfl rfl rfl rfl ?_
  refine y_getF 12 1 (c := 3) (z := 7) dX4_item_1 i6 rfl in_X4 q651 rfl rfl rfl fn_6_1 (Nat.le_trans (Nat.le_of_ble_eq_true rfl) hn) rfl ?_
  refine y_get 78 2 (c := 4) (z := w 7 2) dX4_item_4 i7 rfl in_X5 q603 rfl rfl rfl rfl rfl ?_
  refine b_itc h (fun hc h => ?_) (fun hn0 h => ?_)
  · have key : b_Y (d + 1) mX4_item n Q X 56 [(2, 6), (0, a1)] [] w := by
      refine x_aload_n 0 dX4_item_56 rfl rfl rfl rfl rfl ?_
      refine x_iload_n 1 dX4_item_57 rfl rfl rfl ?_
      refine y_Vi 124 (M := mX4_leaf) (As := [(0, a1)]) (st := []) dX4_item_58 i6 rfl q1735 q1737 qs12 q371 q1738 rfl hmX4_leaf rfl rfl rfl rfl rfl rfl rfl rfl (k_mono h (fun r1 w2 h => ?_))
      exact y_iret dX4_item_61 rfl h
    rcases hc with e | e | e
    · exact x_lsw (off := 49) (t := 56) dX4_item_7 rfl (by rw [e]; rfl) rfl key
    · exact x_lsw (off := 49) (t := 56) dX4_item_7 rfl (by rw [e]; rfl) rfl key
    · exact x_lsw (off := 49) (t := 56) dX4_item_7 rfl (by rw [e]; rfl) rfl key
  · refine b_itc h (fun hc h => ?_) (fun hn1 h => ?_)
    · have key : b_Y (d + 1) mX4_item n Q X 62 [(2, 6), (0, a1)] [] w := by
        refine x_aload_n 0 dX4_item_62 rfl rfl rfl rfl rfl ?_
        refine x_iload_n 1 dX4_item_63 rfl rfl rfl ?_
        refine y_Vi 127 (M := mX4_application) (As := [(0, a1)]) (st := []) dX4_item_64 i6 rfl q1776 q1778 qs15 q371 q1779 rfl hmX4_application rfl rfl rfl rfl rfl rfl rfl rfl (k_mono h (fun r3 w4 h => ?_))
        exact y_iret dX4_item_67 rfl h
      have e := hc
      exact x_lsw (off := 55) (t := 62) dX4_item_7 rfl (by rw [e]; rfl) rfl key
    · refine b_itc h (fun hc h => ?_) (fun hn2 h => ?_)
      · have key : b_Y (d + 1) mX4_item n Q X 68 [(2, 6), (0, a1)] [] w := by
          refine x_aload_n 0 dX4_item_68 rfl rfl rfl rfl rfl ?_
          refine x_iload_n 1 dX4_item_69 rfl rfl rfl ?_
          refine y_Vi 130 (M := mX4_sequence) (As := [(0, a1)]) (st := []) dX4_item_70 i6 rfl q1805 q1807 qs21 q371 q1808 rfl hmX4_sequence rfl rfl rfl rfl rfl rfl rfl rfl (k_mono h (fun r5 w6 h => ?_))
          exact y_iret dX4_item_73 rfl h
        have e := hc
        exact x_lsw (off := 61) (t := 68) dX4_item_7 rfl (by rw [e]; rfl) rfl key
      · have key : b_Y (d + 1) mX4_item n Q X 74 [(2, 6), (0, a1)] [] w := by
          refine x_aload_n 0 dX4_item_74 rfl rfl rfl rfl rfl ?_
          refine y_Vi 81 (M := mX4_refuse) (As := []) (st := []) dX4_item_75 i6 rfl q1767 q1769 qs13 q371 q1770 rfl hmX4_refuse rfl rfl rfl rfl rfl rfl rfl rfl (k_mono h (fun r7 w8 h => ?_))
          exact y_iret dX4_item_78 rfl h
        exact x_lsw (off := 67) (t := 74) dX4_item_7 rfl (by simp only [Op.lookupswitch.offset]; repeat (first | rfl | (rw [if_neg (by omega)]))) rfl key
theorem rX4_leaf {d n : Nat} {w : bW} {Q : Int → bW → Prop} {X : String → bW → Prop} (hn : 143 ≤ n) (a1 : Int) (h : if w 7 2 ≠ 2 then (b_K d mX4_begin [(2, 6), (0, w 7 2), (0, a1)] n w (fun r1 w2 => if r1 < 0 then (Q r1 w2) else (b_K d mX5_next [(2, 7)] n w2 (fun r3 w4 => Q r1 w4) X)) X) else (b_K d mX4_number [(2, w 7 0), (0, w 7 3), (0, w 7 4), (2, 8)] n w (fun r5 w6 => b_K d mX6_bits [(2, 8)] n w6 (fun r7 w8 => if r7 ≤ 1024 then (b_K d mX4_begin [(2, 6), (0, w8 7 2), (0, a1)] n w8 (fun r9 w10 => if r9 < 0 then (Q r9 w10) else (b_K d mX5_next [(2, 7)] n w10 (fun r11 w12 => Q r9 w12) X)) X) else (b_K d mX4_refuse [(2, 6)] n w8 (fun r13 w14 => Q r13 w14) X)) X) X)) : b_K (d + 1) mX4_leaf [(2, 6), (0, a1)] n w Q X := by
  have i6 := iz6 (Nat.le_trans (Nat.le_of_ble_eq_true rfl) hn)
  have i7 := iz7 (Nat.le_trans (Nat.le_of_ble_eq_true rfl) hn)
  have i8 := iz8 (Nat.le_trans (Nat.le_of_ble_eq_true rfl) hn)
  refine k_of (by decide) rfl rfl rfl (ls := [(2, 6), (0, a1), (9, 0)]) rfl ?_
  refine x_aload_n 0 dX4_leaf_0 rfl rfl rfl rfl rfl ?_
  refine y_getF 12 1 (c := 3) (z := 7) dX4_leaf_1 i6 rfl in_X4 q651 rfl rfl rfl fn_6_1 (Nat.le_trans (Nat.le_of_ble_eq_true rfl) hn) rfl ?_
  refine y_get 78 2 (c := 4) (z := w 7 2) dX4_leaf_4 i7 rfl in_X5 q603 rfl rfl rfl rfl rfl ?_
  refine x_iconst 2 (z := 2) dX4_leaf_7 rfl (by decide) rfl ?_
  refine x_icmp_ne (t := 57) 49 dX4_leaf_8 rfl rfl (b_ite h (fun hc h => ?_) (fun hc h => ?_))
  · refine x_aload_n 0 dX4_leaf_57 rfl rfl rfl rfl rfl ?_
    refine x_aload_n 0 dX4_leaf_58 rfl rfl rfl rfl rfl ?_
    refine y_getF 12 1 (c := 3) (z := 7) dX4_leaf_59 i6 rfl in_X4 q651 rfl rfl rfl fn_6_1 (Nat.le_trans (Nat.le_of_ble_eq_true rfl) hn) rfl ?_
    refine y_get 78 2 (c := 4) (z := w 7 2) dX4_leaf_62 i7 rfl in_X5 q603 rfl rfl rfl rfl rfl ?_
    refine x_iload_n 1 dX4_leaf_65 rfl rfl rfl ?_
    refine y_Vi 118 (M := mX4_begin) (As := [(0, w 7 2), (0, a1)]) (st := []) dX4_leaf_66 i6 rfl q1771 q1773 qs14 q371 q1774 rfl hmX4_begin rfl rfl rfl rfl rfl rfl rfl rfl (k_mono h (fun r1 w2 h => ?_))
    refine x_istore_n 2 (ls' := [(2, 6), (0, a1), (0, r1)]) dX4_leaf_69 rfl rfl rfl rfl ?_
    refine x_iload_n 2 dX4_leaf_70 rfl rfl rfl ?_
    refine x_if_lt (t := 81) 10 dX4_leaf_71 rfl rfl (b_ite h (fun hc h => ?_) (fun hc h => ?_))
    · refine x_iload_n 2 dX4_leaf_81 rfl rfl rfl ?_
      exact y_iret dX4_leaf_82 rfl h
    · refine x_aload_n 0 dX4_leaf_74 rfl rfl rfl rfl rfl ?_
      refine y_getF 12 1 (c := 3) (z := 7) dX4_leaf_75 i6 rfl in_X4 q651 rfl rfl rfl fn_6_1 (Nat.le_trans (Nat.le_of_ble_eq_true rfl) hn) rfl ?_
      refine y_Vv 121 (M := mX5_next) (As := []) (st := []) dX4_leaf_78 i7 rfl q1775 q1684 q1685 q372 q1686 rfl hmX5_next rfl rfl rfl rfl rfl rfl rfl (k_mono h (fun r3 w4 h => ?_))
      refine x_iload_n 2 dX4_leaf_81 rfl rfl rfl ?_
      exact y_iret dX4_leaf_82 rfl h
  · refine x_aload_n 0 dX4_leaf_11 rfl rfl rfl rfl rfl ?_
    refine y_getF 12 1 (c := 3) (z := 7) dX4_leaf_12 i6 rfl in_X4 q651 rfl rfl rfl fn_6_1 (Nat.le_trans (Nat.le_of_ble_eq_true rfl) hn) rfl ?_
    refine y_get 60 0 (c := 4) (z := w 7 0) dX4_leaf_15 i7 rfl in_X5 q601 rfl rfl rfl rfl rfl ?_
    refine x_aload_n 0 dX4_leaf_18 rfl rfl rfl rfl rfl ?_
    refine y_getF 12 1 (c := 3) (z := 7) dX4_leaf_19 i6 rfl in_X4 q651 rfl rfl rfl fn_6_1 (Nat.le_trans (Nat.le_of_ble_eq_true rfl) hn) rfl ?_
    refine y_get 85 3 (c := 4) (z := w 7 3) dX4_leaf_22 i7 rfl in_X5 q605 rfl rfl rfl rfl rfl ?_
    refine x_aload_n 0 dX4_leaf_25 rfl rfl rfl rfl rfl ?_
    refine y_getF 12 1 (c := 3) (z := 7) dX4_leaf_26 i6 rfl in_X4 q651 rfl rfl rfl fn_6_1 (Nat.le_trans (Nat.le_of_ble_eq_true rfl) hn) rfl ?_
    refine y_get 112 4 (c := 4) (z := w 7 4) dX4_leaf_29 i7 rfl in_X5 q608 rfl rfl rfl rfl rfl ?_
    refine x_aload_n 0 dX4_leaf_32 rfl rfl rfl rfl rfl ?_
    refine y_getF 23 2 (c := 3) (z := 8) dX4_leaf_33 i6 rfl in_X4 q652 rfl rfl rfl fn_6_2 (Nat.le_trans (Nat.le_of_ble_eq_true rfl) hn) rfl ?_
    refine y_Sv 115 (M := mX4_number) (As := [(2, w 7 0), (0, w 7 3), (0, w 7 4), (2, 8)]) (st := []) dX4_leaf_36 q1739 q1740 q371 q1741 hmX4_number rfl rfl rfl rfl rfl rfl rfl (k_mono h (fun r5 w6 h => ?_))
    refine x_aload_n 0 dX4_leaf_39 rfl rfl rfl rfl rfl ?_
    refine y_getF 23 2 (c := 3) (z := 8) dX4_leaf_40 i6 rfl in_X4 q652 rfl rfl rfl fn_6_2 (Nat.le_trans (Nat.le_of_ble_eq_true rfl) hn) rfl ?_
    refine y_Vi 97 (M := mX6_bits) (As := []) (st := []) dX4_leaf_43 i8 rfl q1751 q1752 q1753 q373 q1754 rfl hmX6_bits rfl rfl rfl rfl rfl rfl rfl rfl (k_mono h (fun r7 w8 h => ?_))
    refine x_sipush 1024 (z := 1024) dX4_leaf_46 rfl (by decide) rfl ?_
    refine x_icmp_le (t := 57) 8 dX4_leaf_49 rfl rfl (b_ite h (fun hc h => ?_) (fun hc h => ?_))
    · refine x_aload_n 0 dX4_leaf_57 rfl rfl rfl rfl rfl ?_
      refine x_aload_n 0 dX4_leaf_58 rfl rfl rfl rfl rfl ?_
      refine y_getF 12 1 (c := 3) (z := 7) dX4_leaf_59 i6 rfl in_X4 q651 rfl rfl rfl fn_6_1 (Nat.le_trans (Nat.le_of_ble_eq_true rfl) hn) rfl ?_
      refine y_get 78 2 (c := 4) (z := w8 7 2) dX4_leaf_62 i7 rfl in_X5 q603 rfl rfl rfl rfl rfl ?_
      refine x_iload_n 1 dX4_leaf_65 rfl rfl rfl ?_
      refine y_Vi 118 (M := mX4_begin) (As := [(0, w8 7 2), (0, a1)]) (st := []) dX4_leaf_66 i6 rfl q1771 q1773 qs14 q371 q1774 rfl hmX4_begin rfl rfl rfl rfl rfl rfl rfl rfl (k_mono h (fun r9 w10 h => ?_))
      refine x_istore_n 2 (ls' := [(2, 6), (0, a1), (0, r9)]) dX4_leaf_69 rfl rfl rfl rfl ?_
      refine x_iload_n 2 dX4_leaf_70 rfl rfl rfl ?_
      refine x_if_lt (t := 81) 10 dX4_leaf_71 rfl rfl (b_ite h (fun hc h => ?_) (fun hc h => ?_))
      · refine x_iload_n 2 dX4_leaf_81 rfl rfl rfl ?_
        exact y_iret dX4_leaf_82 rfl h
      · refine x_aload_n 0 dX4_leaf_74 rfl rfl rfl rfl rfl ?_
        refine y_getF 12 1 (c := 3) (z := 7) dX4_leaf_75 i6 rfl in_X4 q651 rfl rfl rfl fn_6_1 (Nat.le_trans (Nat.le_of_ble_eq_true rfl) hn) rfl ?_
        refine y_Vv 121 (M := mX5_next) (As := []) (st := []) dX4_leaf_78 i7 rfl q1775 q1684 q1685 q372 q1686 rfl hmX5_next rfl rfl rfl rfl rfl rfl rfl (k_mono h (fun r11 w12 h => ?_))
        refine x_iload_n 2 dX4_leaf_81 rfl rfl rfl ?_
        exact y_iret dX4_leaf_82 rfl h
    · refine x_aload_n 0 dX4_leaf_52 rfl rfl rfl rfl rfl ?_
      refine y_Vi 81 (M := mX4_refuse) (As := []) (st := []) dX4_leaf_53 i6 rfl q1767 q1769 qs13 q371 q1770 rfl hmX4_refuse rfl rfl rfl rfl rfl rfl rfl rfl (k_mono h (fun r13 w14 h => ?_))
      exact y_iret dX4_leaf_56 rfl h
abbrev LX4_number_34 (d n : Nat) (Q : Int → bW → Prop) (X : String → bW → Prop) (a0 : Int) (a2 : Int) (a3 : Int) (a4 : Int) (a5 : Int) (w : bW) : Prop := b_Y (d + 1) mX4_number n Q X 34 [(2, a0), (9, 0), (0, a2), (2, a3), (0, a4), (0, a5)] [] w
theorem rX4_number {d n : Nat} {w : bW} {Q : Int → bW → Prop} {X : String → bW → Prop} (a0 : Int) (a1 : Int) (a2 : Int) (a3 : Int) (ha3 : b_is n a3 0 5 3) (h : b_ai n a0 1 1 a1 ∧ (if w a0 a1 ≠ 45 then (b_K d mX6_set [(2, a3), (1, 0)] n w (fun r2 w3 => LX4_number_34 d n Q X a0 a2 a3 0 a1 w3) X) else (b_K d mX6_set [(2, a3), (1, 0)] n w (fun r4 w5 => LX4_number_34 d n Q X a0 a2 a3 1 (b_i (a1 + 1)) w5) X))) : b_K (d + 1) mX4_number [(2, a0), (0, a1), (0, a2), (2, a3)] n w Q X := by
  refine k_of (by decide) rfl rfl rfl (ls := [(2, a0), (0, a1), (0, a2), (2, a3), (9, 0), (9, 0)]) rfl ?_
  refine x_aload_n 0 dX4_number_0 rfl rfl rfl rfl rfl ?_
  refine x_iload_n 1 dX4_number_1 rfl rfl rfl ?_
  obtain ⟨e1, h⟩ := h
  refine y_bald (z := w a0 a1) dX4_number_2 e1 rfl rfl ?_
  refine x_bipush 45 (z := 45) dX4_number_3 rfl (by decide) rfl ?_
  refine x_icmp_ne (t := 12) 7 dX4_number_5 rfl rfl (b_ite h (fun hc h => ?_) (fun hc h => ?_))
  · refine x_iconst 0 (z := 0) dX4_number_12 rfl (by decide) rfl ?_
    refine x_istore 4 (ls' := [(2, a0), (0, a1), (0, a2), (2, a3), (0, 0), (9, 0)]) dX4_number_13 rfl rfl rfl ?_
    refine x_aload_n 3 dX4_number_15 rfl rfl rfl rfl rfl ?_
    refine x_lconst 0 (z := 0) dX4_number_16 rfl (by decide) rfl ?_
    refine y_Vv 93 (M := mX6_set) (As := [(1, 0)]) (st := []) dX4_number_17 ha3 rfl q1742 q1743 q1744 q373 q1745 rfl hmX6_set rfl rfl rfl rfl rfl rfl rfl (k_mono h (fun r2 w3 h => ?_))
    refine x_iload 4 dX4_number_20 rfl rfl ?_
    refine x_if_eq (t := 31) 9 dX4_number_22 rfl rfl (b_ifT (by decide) ?_)
    refine x_iload_n 1 dX4_number_31 rfl rfl rfl ?_
    refine x_istore 5 (ls' := [(2, a0), (0, a1), (0, a2), (2, a3), (0, 0), (0, a1)]) dX4_number_32 rfl rfl rfl ?_
    exact x_fg (fgk (fgd (fgk (fgk (fgk (fgk (fg0))))))) h
  · refine x_iconst 1 (z := 1) dX4_number_8 rfl (by decide) rfl ?_
    refine x_goto 4 (q := 13) dX4_number_9 rfl ?_
    refine x_istore 4 (ls' := [(2, a0), (0, a1), (0, a2), (2, a3), (0, 1), (9, 0)]) dX4_number_13 rfl rfl rfl ?_
    refine x_aload_n 3 dX4_number_15 rfl rfl rfl rfl rfl ?_
    refine x_lconst 0 (z := 0) dX4_number_16 rfl (by decide) rfl ?_
    refine y_Vv 93 (M := mX6_set) (As := [(1, 0)]) (st := []) dX4_number_17 ha3 rfl q1742 q1743 q1744 q373 q1745 rfl hmX6_set rfl rfl rfl rfl rfl rfl rfl (k_mono h (fun r4 w5 h => ?_))
    refine x_iload 4 dX4_number_20 rfl rfl ?_
    refine x_if_eq (t := 31) 9 dX4_number_22 rfl rfl (b_ifF (by decide) ?_)
    refine x_iload_n 1 dX4_number_25 rfl rfl rfl ?_
    refine x_iconst 1 (z := 1) dX4_number_26 rfl (by decide) rfl ?_
    refine x_iadd dX4_number_27 rfl ?_
    refine x_goto 4 (q := 32) dX4_number_28 rfl ?_
    refine x_istore 5 (ls' := [(2, a0), (0, a1), (0, a2), (2, a3), (0, 1), (0, b_i (a1 + 1))]) dX4_number_32 rfl rfl rfl ?_
    exact x_fg (fgk (fgd (fgk (fgk (fgk (fgk (fg0))))))) h
theorem sX4_number_34 {d n : Nat} {w : bW} {Q : Int → bW → Prop} {X : String → bW → Prop} (a0 : Int) (a2 : Int) (a3 : Int) (a4 : Int) (a5 : Int) (ha3 : b_is n a3 0 5 3) (h : if a2 ≤ a5 then (if a4 = 0 then (Q 0 (b_up w a3 2 0)) else (b_K d mX6_isZero [(2, a3)] n w (fun r1 w2 => if r1 ≠ 0 then (Q 0 (b_up w2 a3 2 0)) else (Q 0 (b_up w2 a3 2 1))) X)) else (b_K d mX6_bits [(2, a3)] n w (fun r3 w4 => if 1032 < r3 then (if a4 = 0 then (Q 0 (b_up w4 a3 2 0)) else (b_K d mX6_isZero [(2, a3)] n w4 (fun r5 w6 => if r5 ≠ 0 then (Q 0 (b_up w6 a3 2 0)) else (Q 0 (b_up w6 a3 2 1))) X)) else (b_ai n a0 1 1 a5 ∧ (b_K d mX4_timesTen [(2, a3), (0, b_i ((w4 a0 a5) - 48))] n w4 (fun r8 w9 => LX4_number_34 d n Q X a0 a2 a3 a4 (b_i (a5 + 1)) w9) X))) X)) : LX4_number_34 d n Q X a0 a2 a3 a4 a5 w := by
  refine x_iload 5 dX4_number_34 rfl rfl ?_
  refine x_iload_n 2 dX4_number_36 rfl rfl rfl ?_
  refine x_icmp_ge (t := 67) 30 dX4_number_37 rfl rfl (b_ite h (fun hc h => ?_) (fun hc h => ?_))
  · refine x_aload_n 3 dX4_number_67 rfl rfl rfl rfl rfl ?_
    refine x_iload 4 dX4_number_68 rfl rfl ?_
    refine x_if_eq (t := 84) 14 dX4_number_70 rfl rfl (b_ite h (fun hc h => ?_) (fun hc h => ?_))
    · refine x_iconst 0 (z := 0) dX4_number_84 rfl (by decide) rfl ?_
      refine x_put 108 2 (c := 5) dX4_number_85 ha3 rfl in_X6 tyX6_ok nmX6 q638 rfl rfl rfl (Or.inl rfl) (Or.inr (Or.inl ⟨rfl, rfl, by decide⟩)) rfl ?_
      exact y_vret dX4_number_88 rfl h
    · refine x_aload_n 3 dX4_number_73 rfl rfl rfl rfl rfl ?_
      refine y_Vi 104 (M := mX6_isZero) (As := []) (st := [(2, a3)]) dX4_number_74 ha3 rfl q1763 q1764 q1765 q373 q1766 rfl hmX6_isZero rfl rfl rfl rfl rfl rfl rfl rfl (k_mono h (fun r1 w2 h => ?_))
      refine x_if_ne (t := 84) 7 dX4_number_77 rfl rfl (b_ite h (fun hc h => ?_) (fun hc h => ?_))
      · refine x_iconst 0 (z := 0) dX4_number_84 rfl (by decide) rfl ?_
        refine x_put 108 2 (c := 5) dX4_number_85 ha3 rfl in_X6 tyX6_ok nmX6 q638 rfl rfl rfl (Or.inl rfl) (Or.inr (Or.inl ⟨rfl, rfl, by decide⟩)) rfl ?_
        exact y_vret dX4_number_88 rfl h
      · refine x_iconst 1 (z := 1) dX4_number_80 rfl (by decide) rfl ?_
        refine x_goto 4 (q := 85) dX4_number_81 rfl ?_
        refine x_put 108 2 (c := 5) dX4_number_85 ha3 rfl in_X6 tyX6_ok nmX6 q638 rfl rfl rfl (Or.inl rfl) (Or.inr (Or.inl ⟨rfl, rfl, by decide⟩)) rfl ?_
        exact y_vret dX4_number_88 rfl h
  · refine x_aload_n 3 dX4_number_40 rfl rfl rfl rfl rfl ?_
    refine y_Vi 97 (M := mX6_bits) (As := []) (st := []) dX4_number_41 ha3 rfl q1751 q1752 q1753 q373 q1754 rfl hmX6_bits rfl rfl rfl rfl rfl rfl rfl rfl (k_mono h (fun r3 w4 h => ?_))
    refine x_sipush 1032 (z := 1032) dX4_number_44 rfl (by decide) rfl ?_
    refine x_icmp_gt (t := 67) 20 dX4_number_47 rfl rfl (b_ite h (fun hc h => ?_) (fun hc h => ?_))
    · refine x_aload_n 3 dX4_number_67 rfl rfl rfl rfl rfl ?_
      refine x_iload 4 dX4_number_68 rfl rfl ?_
      refine x_if_eq (t := 84) 14 dX4_number_70 rfl rfl (b_ite h (fun hc h => ?_) (fun hc h => ?_))
      · refine x_iconst 0 (z := 0) dX4_number_84 rfl (by decide) rfl ?_
        refine x_put 108 2 (c := 5) dX4_number_85 ha3 rfl in_X6 tyX6_ok nmX6 q638 rfl rfl rfl (Or.inl rfl) (Or.inr (Or.inl ⟨rfl, rfl, by decide⟩)) rfl ?_
        exact y_vret dX4_number_88 rfl h
      · refine x_aload_n 3 dX4_number_73 rfl rfl rfl rfl rfl ?_
        refine y_Vi 104 (M := mX6_isZero) (As := []) (st := [(2, a3)]) dX4_number_74 ha3 rfl q1763 q1764 q1765 q373 q1766 rfl hmX6_isZero rfl rfl rfl rfl rfl rfl rfl rfl (k_mono h (fun r5 w6 h => ?_))
        refine x_if_ne (t := 84) 7 dX4_number_77 rfl rfl (b_ite h (fun hc h => ?_) (fun hc h => ?_))
        · refine x_iconst 0 (z := 0) dX4_number_84 rfl (by decide) rfl ?_
          refine x_put 108 2 (c := 5) dX4_number_85 ha3 rfl in_X6 tyX6_ok nmX6 q638 rfl rfl rfl (Or.inl rfl) (Or.inr (Or.inl ⟨rfl, rfl, by decide⟩)) rfl ?_
          exact y_vret dX4_number_88 rfl h
        · refine x_iconst 1 (z := 1) dX4_number_80 rfl (by decide) rfl ?_
          refine x_goto 4 (q := 85) dX4_number_81 rfl ?_
          refine x_put 108 2 (c := 5) dX4_number_85 ha3 rfl in_X6 tyX6_ok nmX6 q638 rfl rfl rfl (Or.inl rfl) (Or.inr (Or.inl ⟨rfl, rfl, by decide⟩)) rfl ?_
          exact y_vret dX4_number_88 rfl h
    · refine x_aload_n 3 dX4_number_50 rfl rfl rfl rfl rfl ?_
      refine x_aload_n 0 dX4_number_51 rfl rfl rfl rfl rfl ?_
      refine x_iload 5 dX4_number_52 rfl rfl ?_
      obtain ⟨e7, h⟩ := h
      refine y_bald (z := w4 a0 a5) dX4_number_54 e7 rfl rfl ?_
      refine x_bipush 48 (z := 48) dX4_number_55 rfl (by decide) rfl ?_
      refine x_isub dX4_number_57 rfl ?_
      refine y_Sv 100 (M := mX4_timesTen) (As := [(2, a3), (0, b_i ((w4 a0 a5) - 48))]) (st := []) dX4_number_58 q1759 q1760 q371 q1761 hmX4_timesTen rfl rfl rfl rfl rfl rfl rfl (k_mono h (fun r8 w9 h => ?_))
      refine x_iinc 5 1 (ls' := [(2, a0), (9, 0), (0, a2), (2, a3), (0, a4), (0, b_i (a5 + 1))]) dX4_number_61 rfl rfl rfl rfl ?_
      refine x_goto (-30) (q := 34) dX4_number_64 rfl ?_
      exact x_fg (fgk (fgk (fgk (fgk (fgk (fgk (fg0))))))) h
abbrev LX4_timesTen_4 (d n : Nat) (Q : Int → bW → Prop) (X : String → bW → Prop) (a0 : Int) (a2 : Int) (a3 : Int) (w : bW) : Prop := b_Y (d + 1) mX4_timesTen n Q X 4 [(2, a0), (9, 0), (0, a2), (0, a3), (9, 0)] [] w
theorem rX4_timesTen {d n : Nat} {w : bW} {Q : Int → bW → Prop} {X : String → bW → Prop} (hn : 143 ≤ n) (a0 : Int) (a1 : Int) (ha0 : b_is n a0 0 5 3) (h : LX4_timesTen_4 d n Q X a0 a1 0 w) : b_K (d + 1) mX4_timesTen [(2, a0), (0, a1)] n w Q X := by
  refine k_of (by decide) rfl rfl rfl (ls := [(2, a0), (0, a1), (9, 0), (9, 0), (9, 0)]) rfl ?_
  refine x_iload_n 1 dX4_timesTen_0 rfl rfl rfl ?_
  refine x_istore_n 2 (ls' := [(2, a0), (0, a1), (0, a1), (9, 0), (9, 0)]) dX4_timesTen_1 rfl rfl rfl rfl ?_
  refine x_iconst 0 (z := 0) dX4_timesTen_2 rfl (by decide) rfl ?_
  refine x_istore_n 3 (ls' := [(2, a0), (0, a1), (0, a1), (0, 0), (9, 0)]) dX4_timesTen_3 rfl rfl rfl rfl ?_
  exact x_fg (fgk (fgd (fgk (fgk (fgk (fg0)))))) h
theorem sX4_timesTen_4 {d n : Nat} {w : bW} {Q : Int → bW → Prop} {X : String → bW → Prop} (hn : 143 ≤ n) (a0 : Int) (a2 : Int) (a3 : Int) (ha0 : b_is n a0 0 5 3) (h : if w a0 1 ≤ a3 then (if a2 ≤ 0 then (Q 0 w) else ((0 ≤ w a0 1 ∧ w a0 1 < 200) ∧ (Q 0 (b_up (b_up w a0 1 (b_i ((w a0 1) + 1))) (a0 + 1) (w a0 1) a2)))) else ((0 ≤ a3 ∧ a3 < 200) ∧ (LX4_timesTen_4 d n Q X a0 (b_shr (b_i ((b_i (10 * (w (a0 + 1) a3))) + a2)) 16) (b_i (a3 + 1)) (b_up w (a0 + 1) a3 (b_and (b_i ((b_i (10 * (w (a0 + 1) a3))) + a2)) 65535))))) : LX4_timesTen_4 d n Q X a0 a2 a3 w := by
  refine x_iload_n 3 dX4_timesTen_4 rfl rfl rfl ?_
  refine x_aload_n 0 dX4_timesTen_5 rfl rfl rfl rfl rfl ?_
  refine y_get 88 1 (c := 5) (z := w a0 1) dX4_timesTen_6 ha0 rfl in_X6 q633 rfl rfl rfl rfl rfl ?_
  refine x_icmp_ge (t := 48) 39 dX4_timesTen_9 rfl rfl (b_ite h (fun hc h => ?_) (fun hc h => ?_))
  · refine x_iload_n 2 dX4_timesTen_48 rfl rfl rfl ?_
    refine x_if_le (t := 69) 20 dX4_timesTen_49 rfl rfl (b_ite h (fun hc h => ?_) (fun hc h => ?_))
    · exact y_vret dX4_timesTen_69 rfl h
    · refine x_aload_n 0 dX4_timesTen_52 rfl rfl rfl rfl rfl ?_
      refine y_getO 89 0 (c := 5) dX4_timesTen_53 ha0 rfl in_X6 q628 rfl rfl rfl (fun h5 hf => of_X6_0 (Nat.le_trans (Nat.le_of_ble_eq_true rfl) hn) h5 ha0 hf) rfl (fun e1 => ?_)
      refine x_aload_n 0 dX4_timesTen_56 rfl rfl rfl rfl rfl ?_
      refine x_dup dX4_timesTen_57 rfl rfl ?_
      refine y_get 88 1 (c := 5) (z := w a0 1) dX4_timesTen_58 ha0 rfl in_X6 q633 rfl rfl rfl rfl rfl ?_
      refine x_dup_x1 dX4_timesTen_61 rfl rfl rfl ?_
      refine x_iconst 1 (z := 1) dX4_timesTen_62 rfl (by decide) rfl ?_
      refine x_iadd dX4_timesTen_63 rfl ?_
      refine x_put 88 1 (c := 5) dX4_timesTen_64 ha0 rfl in_X6 tyX6_ok nmX6 q633 rfl rfl rfl (Or.inl rfl) (Or.inl ⟨rfl, rfl⟩) rfl ?_
      refine x_iload_n 2 dX4_timesTen_67 rfl rfl rfl ?_
      obtain ⟨e2, h⟩ := h
      refine y_iast (x' := a2) dX4_timesTen_68 ⟨200, e1, e2⟩ rfl rfl ?_
      exact y_vret dX4_timesTen_69 rfl h
  · refine x_bipush 10 (z := 10) dX4_timesTen_12 rfl (by decide) rfl ?_
    refine x_aload_n 0 dX4_timesTen_14 rfl rfl rfl rfl rfl ?_
    refine y_getO 89 0 (c := 5) dX4_timesTen_15 ha0 rfl in_X6 q628 rfl rfl rfl (fun h5 hf => of_X6_0 (Nat.le_trans (Nat.le_of_ble_eq_true rfl) hn) h5 ha0 hf) rfl (fun e3 => ?_)
    refine x_iload_n 3 dX4_timesTen_18 rfl rfl rfl ?_
    obtain ⟨e4, h⟩ := h
    refine y_iald (z := w (a0 + 1) a3) dX4_timesTen_19 ⟨200, e3, e4⟩ rfl rfl ?_
    refine x_imul dX4_timesTen_20 rfl ?_
    refine x_iload_n 2 dX4_timesTen_21 rfl rfl rfl ?_
    refine x_iadd dX4_timesTen_22 rfl ?_
    refine x_istore 4 (ls' := [(2, a0), (9, 0), (0, a2), (0, a3), (0, b_i ((b_i (10 * (w (a0 + 1) a3))) + a2))]) dX4_timesTen_23 rfl rfl rfl ?_
    refine x_aload_n 0 dX4_timesTen_25 rfl rfl rfl rfl rfl ?_
    refine y_getO 89 0 (c := 5) dX4_timesTen_26 ha0 rfl in_X6 q628 rfl rfl rfl (fun h5 hf => of_X6_0 (Nat.le_trans (Nat.le_of_ble_eq_true rfl) hn) h5 ha0 hf) rfl (fun e5 => ?_)
    refine x_iload_n 3 dX4_timesTen_29 rfl rfl rfl ?_
    refine x_iload 4 dX4_timesTen_30 rfl rfl ?_
    refine x_ldc 92 (x := 65535) dX4_timesTen_32 q1762 rfl (by decide) rfl ?_
    refine x_iand dX4_timesTen_34 rfl ?_
    refine y_iast (x' := b_and (b_i ((b_i (10 * (w (a0 + 1) a3))) + a2)) 65535) dX4_timesTen_35 ⟨200, e3, e4⟩ rfl rfl ?_
    refine x_iload 4 dX4_timesTen_36 rfl rfl ?_
    refine x_bipush 16 (z := 16) dX4_timesTen_38 rfl (by decide) rfl ?_
    refine x_ishr dX4_timesTen_40 rfl ?_
    refine x_istore_n 2 (ls' := [(2, a0), (9, 0), (0, b_shr (b_i ((b_i (10 * (w (a0 + 1) a3))) + a2)) 16), (0, a3), (0, b_i ((b_i (10 * (w (a0 + 1) a3))) + a2))]) dX4_timesTen_41 rfl rfl rfl rfl ?_
    refine x_iinc 3 1 (ls' := [(2, a0), (9, 0), (0, b_shr (b_i ((b_i (10 * (w (a0 + 1) a3))) + a2)) 16), (0, b_i (a3 + 1)), (0, b_i ((b_i (10 * (w (a0 + 1) a3))) + a2))]) dX4_timesTen_42 rfl rfl rfl rfl ?_
    refine x_goto (-41) (q := 4) dX4_timesTen_45 rfl ?_
    exact x_fg (fgk (fgk (fgk (fgk (fgd (fg0)))))) h
theorem rX4_refuse {d n : Nat} {w : bW} {Q : Int → bW → Prop} {X : String → bW → Prop} (hn : 143 ≤ n) (h : if 0 ≤ w 6 13 then (Q (-1) w) else (Q (-1) (b_up w 6 13 (w 7 3)))) : b_K (d + 1) mX4_refuse [(2, 6)] n w Q X := by
  have i6 := iz6 (Nat.le_trans (Nat.le_of_ble_eq_true rfl) hn)
  have i7 := iz7 (Nat.le_trans (Nat.le_of_ble_eq_true rfl) hn)
  refine k_of (by decide) rfl rfl rfl (ls := [(2, 6)]) rfl ?_
  refine x_aload_n 0 dX4_refuse_0 rfl rfl rfl rfl rfl ?_
  refine y_get 67 13 (c := 3) (z := w 6 13) dX4_refuse_1 i6 rfl in_X4 q688 rfl rfl rfl rfl rfl ?_
  refine x_if_ge (t := 18) 14 dX4_refuse_4 rfl rfl (b_ite h (fun hc h => ?_) (fun hc h => ?_))
  · refine x_iconst (-1) (z := (-1)) dX4_refuse_18 rfl (by decide) rfl ?_
    exact y_iret dX4_refuse_19 rfl h
  · refine x_aload_n 0 dX4_refuse_7 rfl rfl rfl rfl rfl ?_
    refine x_aload_n 0 dX4_refuse_8 rfl rfl rfl rfl rfl ?_
    refine y_getF 12 1 (c := 3) (z := 7) dX4_refuse_9 i6 rfl in_X4 q651 rfl rfl rfl fn_6_1 (Nat.le_trans (Nat.le_of_ble_eq_true rfl) hn) rfl ?_
    refine y_get 85 3 (c := 4) (z := w 7 3) dX4_refuse_12 i7 rfl in_X5 q605 rfl rfl rfl rfl rfl ?_
    refine x_put 67 13 (c := 3) dX4_refuse_15 i6 rfl in_X4 tyX4_ok nmX4 q688 rfl rfl rfl (Or.inl rfl) (Or.inl ⟨rfl, rfl⟩) rfl ?_
    refine x_iconst (-1) (z := (-1)) dX4_refuse_18 rfl (by decide) rfl ?_
    exact y_iret dX4_refuse_19 rfl h
theorem rX4_begin {d n : Nat} {w : bW} {Q : Int → bW → Prop} {X : String → bW → Prop} (hn : 143 ≤ n) (a1 : Int) (a2 : Int) (h : if w 6 12 = 4096 then (b_K d mX4_refuse [(2, 6)] n w (fun r1 w2 => Q r1 w2) X) else (if a2 < 60 then ((0 ≤ w 6 12 ∧ w 6 12 < 4096) ∧ ((0 ≤ w 6 12 ∧ w 6 12 < 4096) ∧ ((0 ≤ w 6 12 ∧ w 6 12 < 4096) ∧ ((0 ≤ w 6 12 ∧ w 6 12 < 4096) ∧ ((0 ≤ w 6 12 ∧ w 6 12 < 4096) ∧ ((0 ≤ w 6 12 ∧ w 6 12 < 4096) ∧ ((0 ≤ w 6 12 ∧ w 6 12 < 4096) ∧ ((0 ≤ w 6 12 ∧ w 6 12 < 4096) ∧ ((0 ≤ w 6 12 ∧ w 6 12 < 4096) ∧ (Q (w 6 12) (b_up (b_up (b_up (b_up (b_up (b_up (b_up (b_up (b_up (b_up w 6 12 (b_i ((w 6 12) + 1))) 10 (w 6 12) (b_b8 a1)) 11 (w 6 12) (-1)) 12 (w 6 12) (w 7 3)) 13 (w 6 12) (w 7 4)) 14 (w 6 12) 0) 15 (w 6 12) 0) 16 (w 6 12) (-1)) 17 (w 6 12) (-1)) 18 (w 6 12) 0))))))))))) else (b_K d mX4_refuse [(2, 6)] n w (fun r12 w13 => Q r12 w13) X))) : b_K (d + 1) mX4_begin [(2, 6), (0, a1), (0, a2)] n w Q X := by
  have i6 := iz6 (Nat.le_trans (Nat.le_of_ble_eq_true rfl) hn)
  have i7 := iz7 (Nat.le_trans (Nat.le_of_ble_eq_true rfl) hn)
  have i10 := iz10 (Nat.le_trans (Nat.le_of_ble_eq_true rfl) hn)
  have i11 := iz11 (Nat.le_trans (Nat.le_of_ble_eq_true rfl) hn)
  have i12 := iz12 (Nat.le_trans (Nat.le_of_ble_eq_true rfl) hn)
  have i13 := iz13 (Nat.le_trans (Nat.le_of_ble_eq_true rfl) hn)
  have i14 := iz14 (Nat.le_trans (Nat.le_of_ble_eq_true rfl) hn)
  have i15 := iz15 (Nat.le_trans (Nat.le_of_ble_eq_true rfl) hn)
  have i16 := iz16 (Nat.le_trans (Nat.le_of_ble_eq_true rfl) hn)
  have i17 := iz17 (Nat.le_trans (Nat.le_of_ble_eq_true rfl) hn)
  have i18 := iz18 (Nat.le_trans (Nat.le_of_ble_eq_true rfl) hn)
  refine k_of (by decide) rfl rfl rfl (ls := [(2, 6), (0, a1), (0, a2), (9, 0)]) rfl ?_
  refine x_aload_n 0 dX4_begin_0 rfl rfl rfl rfl rfl ?_
  refine y_get 63 12 (c := 3) (z := w 6 12) dX4_begin_1 i6 rfl in_X4 q686 rfl rfl rfl rfl rfl ?_
  refine x_sipush 4096 (z := 4096) dX4_begin_4 rfl (by decide) rfl ?_
  refine x_icmp_eq (t := 16) 9 dX4_begin_7 rfl rfl (b_ite h (fun hc h => ?_) (fun hc h => ?_))
  · refine x_aload_n 0 dX4_begin_16 rfl rfl rfl rfl rfl ?_
    refine y_Vi 81 (M := mX4_refuse) (As := []) (st := []) dX4_begin_17 i6 rfl q1767 q1769 qs13 q371 q1770 rfl hmX4_refuse rfl rfl rfl rfl rfl rfl rfl rfl (k_mono h (fun r1 w2 h => ?_))
    exact y_iret dX4_begin_20 rfl h
  · refine x_iload_n 2 dX4_begin_10 rfl rfl rfl ?_
    refine x_bipush 60 (z := 60) dX4_begin_11 rfl (by decide) rfl ?_
    refine x_icmp_lt (t := 21) 8 dX4_begin_13 rfl rfl (b_ite h (fun hc h => ?_) (fun hc h => ?_))
    · refine x_aload_n 0 dX4_begin_21 rfl rfl rfl rfl rfl ?_
      refine x_dup dX4_begin_22 rfl rfl ?_
      refine y_get 63 12 (c := 3) (z := w 6 12) dX4_begin_23 i6 rfl in_X4 q686 rfl rfl rfl rfl rfl ?_
      refine x_dup_x1 dX4_begin_26 rfl rfl rfl ?_
      refine x_iconst 1 (z := 1) dX4_begin_27 rfl (by decide) rfl ?_
      refine x_iadd dX4_begin_28 rfl ?_
      refine x_put 63 12 (c := 3) dX4_begin_29 i6 rfl in_X4 tyX4_ok nmX4 q686 rfl rfl rfl (Or.inl rfl) (Or.inl ⟨rfl, rfl⟩) rfl ?_
      refine x_istore_n 3 (ls' := [(2, 6), (0, a1), (0, a2), (0, w 6 12)]) dX4_begin_32 rfl rfl rfl rfl ?_
      refine x_aload_n 0 dX4_begin_33 rfl rfl rfl rfl rfl ?_
      refine y_getF 27 3 (c := 3) (z := 10) dX4_begin_34 i6 rfl in_X4 q653 rfl rfl rfl fn_6_3 (Nat.le_trans (Nat.le_of_ble_eq_true rfl) hn) rfl ?_
      refine x_iload_n 3 dX4_begin_37 rfl rfl rfl ?_
      refine x_iload_n 1 dX4_begin_38 rfl rfl rfl ?_
      refine x_i2b dX4_begin_39 rfl ?_
      obtain ⟨e3, h⟩ := h
      refine y_bast (x' := b_b8 a1) dX4_begin_40 ⟨4096, i10, e3⟩ (b_b8_i _) rfl ?_
      refine x_aload_n 0 dX4_begin_41 rfl rfl rfl rfl rfl ?_
      refine y_getF 31 4 (c := 3) (z := 11) dX4_begin_42 i6 rfl in_X4 q657 rfl rfl rfl fn_6_4 (Nat.le_trans (Nat.le_of_ble_eq_true rfl) hn) rfl ?_
      refine x_iload_n 3 dX4_begin_45 rfl rfl rfl ?_
      refine x_iconst (-1) (z := (-1)) dX4_begin_46 rfl (by decide) rfl ?_
      obtain ⟨e4, h⟩ := h
      refine y_bast (x' := (-1)) dX4_begin_47 ⟨4096, i11, e4⟩ (by decide) rfl ?_
      refine x_aload_n 0 dX4_begin_48 rfl rfl rfl rfl rfl ?_
      refine y_getF 34 5 (c := 3) (z := 12) dX4_begin_49 i6 rfl in_X4 q661 rfl rfl rfl fn_6_5 (Nat.le_trans (Nat.le_of_ble_eq_true rfl) hn) rfl ?_
      refine x_iload_n 3 dX4_begin_52 rfl rfl rfl ?_
      refine x_aload_n 0 dX4_begin_53 rfl rfl rfl rfl rfl ?_
      refine y_getF 12 1 (c := 3) (z := 7) dX4_begin_54 i6 rfl in_X4 q651 rfl rfl rfl fn_6_1 (Nat.le_trans (Nat.le_of_ble_eq_true rfl) hn) rfl ?_
      refine y_get 85 3 (c := 4) (z := w 7 3) dX4_begin_57 i7 rfl in_X5 q605 rfl rfl rfl rfl rfl ?_
      obtain ⟨e5, h⟩ := h
      refine y_iast (x' := w 7 3) dX4_begin_60 ⟨4096, i12, e5⟩ rfl rfl ?_
      refine x_aload_n 0 dX4_begin_61 rfl rfl rfl rfl rfl ?_
      refine y_getF 38 6 (c := 3) (z := 13) dX4_begin_62 i6 rfl in_X4 q664 rfl rfl rfl fn_6_6 (Nat.le_trans (Nat.le_of_ble_eq_true rfl) hn) rfl ?_
      refine x_iload_n 3 dX4_begin_65 rfl rfl rfl ?_
      refine x_aload_n 0 dX4_begin_66 rfl rfl rfl rfl rfl ?_
      refine y_getF 12 1 (c := 3) (z := 7) dX4_begin_67 i6 rfl in_X4 q651 rfl rfl rfl fn_6_1 (Nat.le_trans (Nat.le_of_ble_eq_true rfl) hn) rfl ?_
      refine y_get 112 4 (c := 4) (z := w 7 4) dX4_begin_70 i7 rfl in_X5 q608 rfl rfl rfl rfl rfl ?_
      obtain ⟨e6, h⟩ := h
      refine y_iast (x' := w 7 4) dX4_begin_73 ⟨4096, i13, e6⟩ rfl rfl ?_
      refine x_aload_n 0 dX4_begin_74 rfl rfl rfl rfl rfl ?_
      refine y_getF 41 7 (c := 3) (z := 14) dX4_begin_75 i6 rfl in_X4 q667 rfl rfl rfl fn_6_7 (Nat.le_trans (Nat.le_of_ble_eq_true rfl) hn) rfl ?_
      refine x_iload_n 3 dX4_begin_78 rfl rfl rfl ?_
      refine x_iconst 0 (z := 0) dX4_begin_79 rfl (by decide) rfl ?_
      obtain ⟨e7, h⟩ := h
      refine y_iast (x' := 0) dX4_begin_80 ⟨4096, i14, e7⟩ rfl rfl ?_
      refine x_aload_n 0 dX4_begin_81 rfl rfl rfl rfl rfl ?_
      refine y_getF 44 8 (c := 3) (z := 15) dX4_begin_82 i6 rfl in_X4 q670 rfl rfl rfl fn_6_8 (Nat.le_trans (Nat.le_of_ble_eq_true rfl) hn) rfl ?_
      refine x_iload_n 3 dX4_begin_85 rfl rfl rfl ?_
      refine x_iconst 0 (z := 0) dX4_begin_86 rfl (by decide) rfl ?_
      obtain ⟨e8, h⟩ := h
      refine y_iast (x' := 0) dX4_begin_87 ⟨4096, i15, e8⟩ rfl rfl ?_
      refine x_aload_n 0 dX4_begin_88 rfl rfl rfl rfl rfl ?_
      refine y_getF 47 9 (c := 3) (z := 16) dX4_begin_89 i6 rfl in_X4 q672 rfl rfl rfl fn_6_9 (Nat.le_trans (Nat.le_of_ble_eq_true rfl) hn) rfl ?_
      refine x_iload_n 3 dX4_begin_92 rfl rfl rfl ?_
      refine x_iconst (-1) (z := (-1)) dX4_begin_93 rfl (by decide) rfl ?_
      obtain ⟨e9, h⟩ := h
      refine y_iast (x' := (-1)) dX4_begin_94 ⟨4096, i16, e9⟩ rfl rfl ?_
      refine x_aload_n 0 dX4_begin_95 rfl rfl rfl rfl rfl ?_
      refine y_getF 50 10 (c := 3) (z := 17) dX4_begin_96 i6 rfl in_X4 q676 rfl rfl rfl fn_6_10 (Nat.le_trans (Nat.le_of_ble_eq_true rfl) hn) rfl ?_
      refine x_iload_n 3 dX4_begin_99 rfl rfl rfl ?_
      refine x_iconst (-1) (z := (-1)) dX4_begin_100 rfl (by decide) rfl ?_
      obtain ⟨e10, h⟩ := h
      refine y_iast (x' := (-1)) dX4_begin_101 ⟨4096, i17, e10⟩ rfl rfl ?_
      refine x_aload_n 0 dX4_begin_102 rfl rfl rfl rfl rfl ?_
      refine y_getF 53 11 (c := 3) (z := 18) dX4_begin_103 i6 rfl in_X4 q680 rfl rfl rfl fn_6_11 (Nat.le_trans (Nat.le_of_ble_eq_true rfl) hn) rfl ?_
      refine x_iload_n 3 dX4_begin_106 rfl rfl rfl ?_
      refine x_iconst 0 (z := 0) dX4_begin_107 rfl (by decide) rfl ?_
      obtain ⟨e11, h⟩ := h
      refine y_iast (x' := 0) dX4_begin_108 ⟨4096, i18, e11⟩ rfl rfl ?_
      refine x_iload_n 3 dX4_begin_109 rfl rfl rfl ?_
      exact y_iret dX4_begin_110 rfl h
    · refine x_aload_n 0 dX4_begin_16 rfl rfl rfl rfl rfl ?_
      refine y_Vi 81 (M := mX4_refuse) (As := []) (st := []) dX4_begin_17 i6 rfl q1767 q1769 qs13 q371 q1770 rfl hmX4_refuse rfl rfl rfl rfl rfl rfl rfl rfl (k_mono h (fun r12 w13 h => ?_))
      exact y_iret dX4_begin_20 rfl h
abbrev LX4_application_61 (d n : Nat) (Q : Int → bW → Prop) (X : String → bW → Prop) (a1 : Int) (a2 : Int) (a3 : Int) (w : bW) : Prop := b_Y (d + 1) mX4_application n Q X 61 [(2, 6), (0, a1), (0, a2), (0, a3)] [] w
theorem rX4_application {d n : Nat} {w : bW} {Q : Int → bW → Prop} {X : String → bW → Prop} (hn : 143 ≤ n) (a1 : Int) (h : b_K d mX4_word [(2, 6), (0, a1)] n w (fun r1 w2 => if 0 ≤ r1 then (if w2 7 2 ≠ 6 then (LX4_application_61 d n Q X a1 r1 (-1) w2) else ((0 ≤ r1 ∧ r1 < 4096) ∧ ((0 ≤ r1 ∧ r1 < 4096) ∧ (b_K d mX5_next [(2, 7)] n (b_up (b_up w2 14 r1 (b_i ((w2 7 3) + 1))) 15 r1 (w2 7 4)) (fun r5 w6 => LX4_application_61 d n Q X a1 r1 (-1) w6) X)))) else (Q (-1) w2)) X) : b_K (d + 1) mX4_application [(2, 6), (0, a1)] n w Q X := by
  have i6 := iz6 (Nat.le_trans (Nat.le_of_ble_eq_true rfl) hn)
  have i7 := iz7 (Nat.le_trans (Nat.le_of_ble_eq_true rfl) hn)
  have i14 := iz14 (Nat.le_trans (Nat.le_of_ble_eq_true rfl) hn)
  have i15 := iz15 (Nat.le_trans (Nat.le_of_ble_eq_true rfl) hn)
  refine k_of (by decide) rfl rfl rfl (ls := [(2, 6), (0, a1), (9, 0), (9, 0)]) rfl ?_
  refine x_aload_n 0 dX4_application_0 rfl rfl rfl rfl rfl ?_
  refine x_iload_n 1 dX4_application_1 rfl rfl rfl ?_
  refine y_Vi 143 (M := mX4_word) (As := [(0, a1)]) (st := []) dX4_application_2 i6 rfl q1780 q1782 qs16 q371 q1783 rfl hmX4_word rfl rfl rfl rfl rfl rfl rfl rfl (k_mono h (fun r1 w2 h => ?_))
  refine x_istore_n 2 (ls' := [(2, 6), (0, a1), (0, r1), (9, 0)]) dX4_application_5 rfl rfl rfl rfl ?_
  refine x_iload_n 2 dX4_application_6 rfl rfl rfl ?_
  refine x_if_ge (t := 12) 5 dX4_application_7 rfl rfl (b_ite h (fun hc h => ?_) (fun hc h => ?_))
  · refine x_aload_n 0 dX4_application_12 rfl rfl rfl rfl rfl ?_
    refine y_getF 12 1 (c := 3) (z := 7) dX4_application_13 i6 rfl in_X4 q651 rfl rfl rfl fn_6_1 (Nat.le_trans (Nat.le_of_ble_eq_true rfl) hn) rfl ?_
    refine y_get 78 2 (c := 4) (z := w2 7 2) dX4_application_16 i7 rfl in_X5 q603 rfl rfl rfl rfl rfl ?_
    refine x_bipush 6 (z := 6) dX4_application_19 rfl (by decide) rfl ?_
    refine x_icmp_ne (t := 59) 38 dX4_application_21 rfl rfl (b_ite h (fun hc h => ?_) (fun hc h => ?_))
    · refine x_iconst (-1) (z := (-1)) dX4_application_59 rfl (by decide) rfl ?_
      refine x_istore_n 3 (ls' := [(2, 6), (0, a1), (0, r1), (0, (-1))]) dX4_application_60 rfl rfl rfl rfl ?_
      exact x_fg (fgk (fgk (fgk (fgk (fg0))))) h
    · refine x_aload_n 0 dX4_application_24 rfl rfl rfl rfl rfl ?_
      refine y_getF 41 7 (c := 3) (z := 14) dX4_application_25 i6 rfl in_X4 q667 rfl rfl rfl fn_6_7 (Nat.le_trans (Nat.le_of_ble_eq_true rfl) hn) rfl ?_
      refine x_iload_n 2 dX4_application_28 rfl rfl rfl ?_
      refine x_aload_n 0 dX4_application_29 rfl rfl rfl rfl rfl ?_
      refine y_getF 12 1 (c := 3) (z := 7) dX4_application_30 i6 rfl in_X4 q651 rfl rfl rfl fn_6_1 (Nat.le_trans (Nat.le_of_ble_eq_true rfl) hn) rfl ?_
      refine y_get 85 3 (c := 4) (z := w2 7 3) dX4_application_33 i7 rfl in_X5 q605 rfl rfl rfl rfl rfl ?_
      refine x_iconst 1 (z := 1) dX4_application_36 rfl (by decide) rfl ?_
      refine x_iadd dX4_application_37 rfl ?_
      obtain ⟨e3, h⟩ := h
      refine y_iast (x' := b_i ((w2 7 3) + 1)) dX4_application_38 ⟨4096, i14, e3⟩ rfl rfl ?_
      refine x_aload_n 0 dX4_application_39 rfl rfl rfl rfl rfl ?_
      refine y_getF 44 8 (c := 3) (z := 15) dX4_application_40 i6 rfl in_X4 q670 rfl rfl rfl fn_6_8 (Nat.le_trans (Nat.le_of_ble_eq_true rfl) hn) rfl ?_
      refine x_iload_n 2 dX4_application_43 rfl rfl rfl ?_
      refine x_aload_n 0 dX4_application_44 rfl rfl rfl rfl rfl ?_
      refine y_getF 12 1 (c := 3) (z := 7) dX4_application_45 i6 rfl in_X4 q651 rfl rfl rfl fn_6_1 (Nat.le_trans (Nat.le_of_ble_eq_true rfl) hn) rfl ?_
      refine y_get 112 4 (c := 4) (z := w2 7 4) dX4_application_48 i7 rfl in_X5 q608 rfl rfl rfl rfl rfl ?_
      obtain ⟨e4, h⟩ := h
      refine y_iast (x' := w2 7 4) dX4_application_51 ⟨4096, i15, e4⟩ rfl rfl ?_
      refine x_aload_n 0 dX4_application_52 rfl rfl rfl rfl rfl ?_
      refine y_getF 12 1 (c := 3) (z := 7) dX4_application_53 i6 rfl in_X4 q651 rfl rfl rfl fn_6_1 (Nat.le_trans (Nat.le_of_ble_eq_true rfl) hn) rfl ?_
      refine y_Vv 121 (M := mX5_next) (As := []) (st := []) dX4_application_56 i7 rfl q1775 q1684 q1685 q372 q1686 rfl hmX5_next rfl rfl rfl rfl rfl rfl rfl (k_mono h (fun r5 w6 h => ?_))
      refine x_iconst (-1) (z := (-1)) dX4_application_59 rfl (by decide) rfl ?_
      refine x_istore_n 3 (ls' := [(2, 6), (0, a1), (0, r1), (0, (-1))]) dX4_application_60 rfl rfl rfl rfl ?_
      exact x_fg (fgk (fgk (fgk (fgk (fg0))))) h
  · refine x_iconst (-1) (z := (-1)) dX4_application_10 rfl (by decide) rfl ?_
    exact y_iret dX4_application_11 rfl h
theorem sX4_application_61 {d n : Nat} {w : bW} {Q : Int → bW → Prop} {X : String → bW → Prop} (hn : 143 ≤ n) (a1 : Int) (a2 : Int) (a3 : Int) (h : b_K d mX4_isArgument [(2, 6)] n w (fun r1 w2 => if r1 = 0 then (Q a2 w2) else (b_K d mX4_argument [(2, 6), (0, b_i (a1 + 1))] n w2 (fun r3 w4 => b_K d mX4_link [(2, 6), (0, a2), (0, a3), (0, r3)] n w4 (fun r5 w6 => if 0 ≤ r5 then (LX4_application_61 d n Q X a1 a2 r5 w6) else (Q (-1) w6)) X) X)) X) : LX4_application_61 d n Q X a1 a2 a3 w := by
  have i6 := iz6 (Nat.le_trans (Nat.le_of_ble_eq_true rfl) hn)
  refine x_aload_n 0 dX4_application_61 rfl rfl rfl rfl rfl ?_
  refine y_Vi 146 (M := mX4_isArgument) (As := []) (st := []) dX4_application_62 i6 rfl q1793 q1795 qs18 q371 q1796 rfl hmX4_isArgument rfl rfl rfl rfl rfl rfl rfl rfl (k_mono h (fun r1 w2 h => ?_))
  refine x_if_eq (t := 88) 23 dX4_application_65 rfl rfl (b_ite h (fun hc h => ?_) (fun hc h => ?_))
  · refine x_iload_n 2 dX4_application_88 rfl rfl rfl ?_
    exact y_iret dX4_application_89 rfl h
  · refine x_aload_n 0 dX4_application_68 rfl rfl rfl rfl rfl ?_
    refine x_iload_n 2 dX4_application_69 rfl rfl rfl ?_
    refine x_iload_n 3 dX4_application_70 rfl rfl rfl ?_
    refine x_aload_n 0 dX4_application_71 rfl rfl rfl rfl rfl ?_
    refine x_iload_n 1 dX4_application_72 rfl rfl rfl ?_
    refine x_iconst 1 (z := 1) dX4_application_73 rfl (by decide) rfl ?_
    refine x_iadd dX4_application_74 rfl ?_
    refine y_Vi 149 (M := mX4_argument) (As := [(0, b_i (a1 + 1))]) (st := [(0, a3), (0, a2), (2, 6)]) dX4_application_75 i6 rfl q1797 q1799 qs19 q371 q1800 rfl hmX4_argument rfl rfl rfl rfl rfl rfl rfl rfl (k_mono h (fun r3 w4 h => ?_))
    refine y_Vi 133 (M := mX4_link) (As := [(0, a2), (0, a3), (0, r3)]) (st := []) dX4_application_78 i6 rfl q1801 q1803 qs20 q371 q1804 rfl hmX4_link rfl rfl rfl rfl rfl rfl rfl rfl (k_mono h (fun r5 w6 h => ?_))
    refine x_istore_n 3 (ls' := [(2, 6), (0, a1), (0, a2), (0, r5)]) dX4_application_81 rfl rfl rfl rfl ?_
    refine x_iload_n 3 dX4_application_82 rfl rfl rfl ?_
    refine x_if_ge (t := 61) (-22) dX4_application_83 rfl rfl (b_ite h (fun hc h => ?_) (fun hc h => ?_))
    · exact x_fg (fgk (fgk (fgk (fgk (fg0))))) h
    · refine x_iconst (-1) (z := (-1)) dX4_application_86 rfl (by decide) rfl ?_
      exact y_iret dX4_application_87 rfl h
theorem rX4_word {d n : Nat} {w : bW} {Q : Int → bW → Prop} {X : String → bW → Prop} (hn : 143 ≤ n) (a1 : Int) (h : b_K d mX4_begin [(2, 6), (0, 8), (0, a1)] n w (fun r1 w2 => if r1 < 0 then (Q r1 w2) else (b_K d mX3_find [(2, 4), (2, w2 7 0), (0, w2 7 3), (0, w2 7 4)] n w2 (fun r3 w4 => (0 ≤ r1 ∧ r1 < 4096) ∧ (b_K d mX5_next [(2, 7)] n (b_up w4 11 r1 (b_b8 r3)) (fun r6 w7 => Q r1 w7) X)) X)) X) : b_K (d + 1) mX4_word [(2, 6), (0, a1)] n w Q X := by
  have i4 := iz4 (Nat.le_trans (Nat.le_of_ble_eq_true rfl) hn)
  have i6 := iz6 (Nat.le_trans (Nat.le_of_ble_eq_true rfl) hn)
  have i7 := iz7 (Nat.le_trans (Nat.le_of_ble_eq_true rfl) hn)
  have i11 := iz11 (Nat.le_trans (Nat.le_of_ble_eq_true rfl) hn)
  refine k_of (by decide) rfl rfl rfl (ls := [(2, 6), (0, a1), (9, 0)]) rfl ?_
  refine x_aload_n 0 dX4_word_0 rfl rfl rfl rfl rfl ?_
  refine x_bipush 8 (z := 8) dX4_word_1 rfl (by decide) rfl ?_
  refine x_iload_n 1 dX4_word_3 rfl rfl rfl ?_
  refine y_Vi 118 (M := mX4_begin) (As := [(0, 8), (0, a1)]) (st := []) dX4_word_4 i6 rfl q1771 q1773 qs14 q371 q1774 rfl hmX4_begin rfl rfl rfl rfl rfl rfl rfl rfl (k_mono h (fun r1 w2 h => ?_))
  refine x_istore_n 2 (ls' := [(2, 6), (0, a1), (0, r1)]) dX4_word_7 rfl rfl rfl rfl ?_
  refine x_iload_n 2 dX4_word_8 rfl rfl rfl ?_
  refine x_if_lt (t := 54) 45 dX4_word_9 rfl rfl (b_ite h (fun hc h => ?_) (fun hc h => ?_))
  · refine x_iload_n 2 dX4_word_54 rfl rfl rfl ?_
    exact y_iret dX4_word_55 rfl h
  · refine x_aload_n 0 dX4_word_12 rfl rfl rfl rfl rfl ?_
    refine y_getF 31 4 (c := 3) (z := 11) dX4_word_13 i6 rfl in_X4 q657 rfl rfl rfl fn_6_4 (Nat.le_trans (Nat.le_of_ble_eq_true rfl) hn) rfl ?_
    refine x_iload_n 2 dX4_word_16 rfl rfl rfl ?_
    refine x_aload_n 0 dX4_word_17 rfl rfl rfl rfl rfl ?_
    refine y_getF 56 0 (c := 3) (z := 4) dX4_word_18 i6 rfl in_X4 q650 rfl rfl rfl fn_6_0 (Nat.le_trans (Nat.le_of_ble_eq_true rfl) hn) rfl ?_
    refine x_aload_n 0 dX4_word_21 rfl rfl rfl rfl rfl ?_
    refine y_getF 12 1 (c := 3) (z := 7) dX4_word_22 i6 rfl in_X4 q651 rfl rfl rfl fn_6_1 (Nat.le_trans (Nat.le_of_ble_eq_true rfl) hn) rfl ?_
    refine y_get 60 0 (c := 4) (z := w2 7 0) dX4_word_25 i7 rfl in_X5 q601 rfl rfl rfl rfl rfl ?_
    refine x_aload_n 0 dX4_word_28 rfl rfl rfl rfl rfl ?_
    refine y_getF 12 1 (c := 3) (z := 7) dX4_word_29 i6 rfl in_X4 q651 rfl rfl rfl fn_6_1 (Nat.le_trans (Nat.le_of_ble_eq_true rfl) hn) rfl ?_
    refine y_get 85 3 (c := 4) (z := w2 7 3) dX4_word_32 i7 rfl in_X5 q605 rfl rfl rfl rfl rfl ?_
    refine x_aload_n 0 dX4_word_35 rfl rfl rfl rfl rfl ?_
    refine y_getF 12 1 (c := 3) (z := 7) dX4_word_36 i6 rfl in_X4 q651 rfl rfl rfl fn_6_1 (Nat.le_trans (Nat.le_of_ble_eq_true rfl) hn) rfl ?_
    refine y_get 112 4 (c := 4) (z := w2 7 4) dX4_word_39 i7 rfl in_X5 q608 rfl rfl rfl rfl rfl ?_
    refine y_Vi 137 (M := mX3_find) (As := [(2, w2 7 0), (0, w2 7 3), (0, w2 7 4)]) (st := [(0, r1), (2, 11)]) dX4_word_42 i4 rfl q1784 q1785 q1786 q364 q1787 rfl hmX3_find rfl rfl rfl rfl rfl rfl rfl rfl (k_mono h (fun r3 w4 h => ?_))
    refine x_i2b dX4_word_45 rfl ?_
    obtain ⟨e5, h⟩ := h
    refine y_bast (x' := b_b8 r3) dX4_word_46 ⟨4096, i11, e5⟩ (b_b8_i _) rfl ?_
    refine x_aload_n 0 dX4_word_47 rfl rfl rfl rfl rfl ?_
    refine y_getF 12 1 (c := 3) (z := 7) dX4_word_48 i6 rfl in_X4 q651 rfl rfl rfl fn_6_1 (Nat.le_trans (Nat.le_of_ble_eq_true rfl) hn) rfl ?_
    refine y_Vv 121 (M := mX5_next) (As := []) (st := []) dX4_word_51 i7 rfl q1775 q1684 q1685 q372 q1686 rfl hmX5_next rfl rfl rfl rfl rfl rfl rfl (k_mono h (fun r6 w7 h => ?_))
    refine x_iload_n 2 dX4_word_54 rfl rfl rfl ?_
    exact y_iret dX4_word_55 rfl h
theorem rX4_isArgument {d n : Nat} {w : bW} {Q : Int → bW → Prop} {X : String → bW → Prop} (hn : 143 ≤ n) (h : if w 7 2 = 2 then (Q 1 w) else (if w 7 2 = 3 then (Q 1 w) else (if w 7 2 = 4 then (Q 1 w) else (if w 7 2 = 5 then (Q 1 w) else (if w 7 2 = 123 then (Q 1 w) else (if w 7 2 ≠ 40 then (Q 0 w) else (Q 1 w))))))) : b_K (d + 1) mX4_isArgument [(2, 6)] n w Q X := by
  have i6 := iz6 (Nat.le_trans (Nat.le_of_ble_eq_true rfl) hn)
  have i7 := iz7 (Nat.le_trans (Nat.le_of_ble_eq_true rfl) hn)
  refine k_of (by decide) rfl rfl rfl (ls := [(2, 6), (9, 0)]) rfl ?_
  refine x_aload_n 0 dX4_isArgument_0 rfl rfl rfl rfl rfl ?_
  refine y_getF 12 1 (c := 3) (z := 7) dX4_isArgument_1 i6 rfl in_X4 q651 rfl rfl rfl fn_6_1 (Nat.le_trans (Nat.le_of_ble_eq_true rfl) hn) rfl ?_
  refine y_get 78 2 (c := 4) (z := w 7 2) dX4_isArgument_4 i7 rfl in_X5 q603 rfl rfl rfl rfl rfl ?_
  refine x_istore_n 1 (ls' := [(2, 6), (0, w 7 2)]) dX4_isArgument_7 rfl rfl rfl rfl ?_
  refine x_iload_n 1 dX4_isArgument_8 rfl rfl rfl ?_
  refine x_iconst 2 (z := 2) dX4_isArgument_9 rfl (by decide) rfl ?_
  refine x_icmp_eq (t := 40) 30 dX4_isArgument_10 rfl rfl (b_ite h (fun hc h => ?_) (fun hc h => ?_))
  · refine x_iconst 1 (z := 1) dX4_isArgument_40 rfl (by decide) rfl ?_
    refine x_goto 4 (q := 45) dX4_isArgument_41 rfl ?_
    exact y_zret dX4_isArgument_45 rfl (by decide) h
  · refine x_iload_n 1 dX4_isArgument_13 rfl rfl rfl ?_
    refine x_iconst 3 (z := 3) dX4_isArgument_14 rfl (by decide) rfl ?_
    refine x_icmp_eq (t := 40) 25 dX4_isArgument_15 rfl rfl (b_ite h (fun hc h => ?_) (fun hc h => ?_))
    · refine x_iconst 1 (z := 1) dX4_isArgument_40 rfl (by decide) rfl ?_
      refine x_goto 4 (q := 45) dX4_isArgument_41 rfl ?_
      exact y_zret dX4_isArgument_45 rfl (by decide) h
    · refine x_iload_n 1 dX4_isArgument_18 rfl rfl rfl ?_
      refine x_iconst 4 (z := 4) dX4_isArgument_19 rfl (by decide) rfl ?_
      refine x_icmp_eq (t := 40) 20 dX4_isArgument_20 rfl rfl (b_ite h (fun hc h => ?_) (fun hc h => ?_))
      · refine x_iconst 1 (z := 1) dX4_isArgument_40 rfl (by decide) rfl ?_
        refine x_goto 4 (q := 45) dX4_isArgument_41 rfl ?_
        exact y_zret dX4_isArgument_45 rfl (by decide) h
      · refine x_iload_n 1 dX4_isArgument_23 rfl rfl rfl ?_
        refine x_iconst 5 (z := 5) dX4_isArgument_24 rfl (by decide) rfl ?_
        refine x_icmp_eq (t := 40) 15 dX4_isArgument_25 rfl rfl (b_ite h (fun hc h => ?_) (fun hc h => ?_))
        · refine x_iconst 1 (z := 1) dX4_isArgument_40 rfl (by decide) rfl ?_
          refine x_goto 4 (q := 45) dX4_isArgument_41 rfl ?_
          exact y_zret dX4_isArgument_45 rfl (by decide) h
        · refine x_iload_n 1 dX4_isArgument_28 rfl rfl rfl ?_
          refine x_bipush 123 (z := 123) dX4_isArgument_29 rfl (by decide) rfl ?_
          refine x_icmp_eq (t := 40) 9 dX4_isArgument_31 rfl rfl (b_ite h (fun hc h => ?_) (fun hc h => ?_))
          · refine x_iconst 1 (z := 1) dX4_isArgument_40 rfl (by decide) rfl ?_
            refine x_goto 4 (q := 45) dX4_isArgument_41 rfl ?_
            exact y_zret dX4_isArgument_45 rfl (by decide) h
          · refine x_iload_n 1 dX4_isArgument_34 rfl rfl rfl ?_
            refine x_bipush 40 (z := 40) dX4_isArgument_35 rfl (by decide) rfl ?_
            refine x_icmp_ne (t := 44) 7 dX4_isArgument_37 rfl rfl (b_ite h (fun hc h => ?_) (fun hc h => ?_))
            · refine x_iconst 0 (z := 0) dX4_isArgument_44 rfl (by decide) rfl ?_
              exact y_zret dX4_isArgument_45 rfl (by decide) h
            · refine x_iconst 1 (z := 1) dX4_isArgument_40 rfl (by decide) rfl ?_
              refine x_goto 4 (q := 45) dX4_isArgument_41 rfl ?_
              exact y_zret dX4_isArgument_45 rfl (by decide) h
theorem rX4_argument {d n : Nat} {w : bW} {Q : Int → bW → Prop} {X : String → bW → Prop} (hn : 143 ≤ n) (a1 : Int) (h : if w 7 2 ≠ 5 then (if w 7 2 = 40 then (b_K d mX5_next [(2, 7)] n w (fun r1 w2 => if w2 7 2 ≠ 5 then (b_K d mX4_refuse [(2, 6)] n w2 (fun r3 w4 => if r3 < 0 then (b_K d mX4_refuse [(2, 6)] n w4 (fun r5 w6 => Q r5 w6) X) else (if w4 7 2 = 41 then (b_K d mX5_next [(2, 7)] n w4 (fun r7 w8 => Q r3 w8) X) else (b_K d mX4_refuse [(2, 6)] n w4 (fun r9 w10 => Q r9 w10) X))) X) else (b_K d mX4_application [(2, 6), (0, a1)] n w2 (fun r11 w12 => if r11 < 0 then (b_K d mX4_refuse [(2, 6)] n w12 (fun r13 w14 => Q r13 w14) X) else (if w12 7 2 = 41 then (b_K d mX5_next [(2, 7)] n w12 (fun r15 w16 => Q r11 w16) X) else (b_K d mX4_refuse [(2, 6)] n w12 (fun r17 w18 => Q r17 w18) X))) X)) X) else (b_K d mX4_item [(2, 6), (0, a1)] n w (fun r19 w20 => Q r19 w20) X)) else (b_K d mX4_word [(2, 6), (0, a1)] n w (fun r21 w22 => Q r21 w22) X)) : b_K (d + 1) mX4_argument [(2, 6), (0, a1)] n w Q X := by
  have i6 := iz6 (Nat.le_trans (Nat.le_of_ble_eq_true rfl) hn)
  have i7 := iz7 (Nat.le_trans (Nat.le_of_ble_eq_true rfl) hn)
  refine k_of (by decide) rfl rfl rfl (ls := [(2, 6), (0, a1), (9, 0)]) rfl ?_
  refine x_aload_n 0 dX4_argument_0 rfl rfl rfl rfl rfl ?_
  refine y_getF 12 1 (c := 3) (z := 7) dX4_argument_1 i6 rfl in_X4 q651 rfl rfl rfl fn_6_1 (Nat.le_trans (Nat.le_of_ble_eq_true rfl) hn) rfl ?_
  refine y_get 78 2 (c := 4) (z := w 7 2) dX4_argument_4 i7 rfl in_X5 q603 rfl rfl rfl rfl rfl ?_
  refine x_iconst 5 (z := 5) dX4_argument_7 rfl (by decide) rfl ?_
  refine x_icmp_ne (t := 17) 9 dX4_argument_8 rfl rfl (b_ite h (fun hc h => ?_) (fun hc h => ?_))
  · refine x_aload_n 0 dX4_argument_17 rfl rfl rfl rfl rfl ?_
    refine y_getF 12 1 (c := 3) (z := 7) dX4_argument_18 i6 rfl in_X4 q651 rfl rfl rfl fn_6_1 (Nat.le_trans (Nat.le_of_ble_eq_true rfl) hn) rfl ?_
    refine y_get 78 2 (c := 4) (z := w 7 2) dX4_argument_21 i7 rfl in_X5 q603 rfl rfl rfl rfl rfl ?_
    refine x_bipush 40 (z := 40) dX4_argument_24 rfl (by decide) rfl ?_
    refine x_icmp_eq (t := 35) 9 dX4_argument_26 rfl rfl (b_ite h (fun hc h => ?_) (fun hc h => ?_))
    · refine x_aload_n 0 dX4_argument_35 rfl rfl rfl rfl rfl ?_
      refine y_getF 12 1 (c := 3) (z := 7) dX4_argument_36 i6 rfl in_X4 q651 rfl rfl rfl fn_6_1 (Nat.le_trans (Nat.le_of_ble_eq_true rfl) hn) rfl ?_
      refine y_Vv 121 (M := mX5_next) (As := []) (st := []) dX4_argument_39 i7 rfl q1775 q1684 q1685 q372 q1686 rfl hmX5_next rfl rfl rfl rfl rfl rfl rfl (k_mono h (fun r1 w2 h => ?_))
      refine x_aload_n 0 dX4_argument_42 rfl rfl rfl rfl rfl ?_
      refine y_getF 12 1 (c := 3) (z := 7) dX4_argument_43 i6 rfl in_X4 q651 rfl rfl rfl fn_6_1 (Nat.le_trans (Nat.le_of_ble_eq_true rfl) hn) rfl ?_
      refine y_get 78 2 (c := 4) (z := w2 7 2) dX4_argument_46 i7 rfl in_X5 q603 rfl rfl rfl rfl rfl ?_
      refine x_iconst 5 (z := 5) dX4_argument_49 rfl (by decide) rfl ?_
      refine x_icmp_ne (t := 61) 11 dX4_argument_50 rfl rfl (b_ite h (fun hc h => ?_) (fun hc h => ?_))
      · refine x_aload_n 0 dX4_argument_61 rfl rfl rfl rfl rfl ?_
        refine y_Vi 81 (M := mX4_refuse) (As := []) (st := []) dX4_argument_62 i6 rfl q1767 q1769 qs13 q371 q1770 rfl hmX4_refuse rfl rfl rfl rfl rfl rfl rfl rfl (k_mono h (fun r3 w4 h => ?_))
        refine x_istore_n 2 (ls' := [(2, 6), (0, a1), (0, r3)]) dX4_argument_65 rfl rfl rfl rfl ?_
        refine x_iload_n 2 dX4_argument_66 rfl rfl rfl ?_
        refine x_if_lt (t := 82) 15 dX4_argument_67 rfl rfl (b_ite h (fun hc h => ?_) (fun hc h => ?_))
        · refine x_aload_n 0 dX4_argument_82 rfl rfl rfl rfl rfl ?_
          refine y_Vi 81 (M := mX4_refuse) (As := []) (st := []) dX4_argument_83 i6 rfl q1767 q1769 qs13 q371 q1770 rfl hmX4_refuse rfl rfl rfl rfl rfl rfl rfl rfl (k_mono h (fun r5 w6 h => ?_))
          exact y_iret dX4_argument_86 rfl h
        · refine x_aload_n 0 dX4_argument_70 rfl rfl rfl rfl rfl ?_
          refine y_getF 12 1 (c := 3) (z := 7) dX4_argument_71 i6 rfl in_X4 q651 rfl rfl rfl fn_6_1 (Nat.le_trans (Nat.le_of_ble_eq_true rfl) hn) rfl ?_
          refine y_get 78 2 (c := 4) (z := w4 7 2) dX4_argument_74 i7 rfl in_X5 q603 rfl rfl rfl rfl rfl ?_
          refine x_bipush 41 (z := 41) dX4_argument_77 rfl (by decide) rfl ?_
          refine x_icmp_eq (t := 87) 8 dX4_argument_79 rfl rfl (b_ite h (fun hc h => ?_) (fun hc h => ?_))
          · refine x_aload_n 0 dX4_argument_87 rfl rfl rfl rfl rfl ?_
            refine y_getF 12 1 (c := 3) (z := 7) dX4_argument_88 i6 rfl in_X4 q651 rfl rfl rfl fn_6_1 (Nat.le_trans (Nat.le_of_ble_eq_true rfl) hn) rfl ?_
            refine y_Vv 121 (M := mX5_next) (As := []) (st := []) dX4_argument_91 i7 rfl q1775 q1684 q1685 q372 q1686 rfl hmX5_next rfl rfl rfl rfl rfl rfl rfl (k_mono h (fun r7 w8 h => ?_))
            refine x_iload_n 2 dX4_argument_94 rfl rfl rfl ?_
            exact y_iret dX4_argument_95 rfl h
          · refine x_aload_n 0 dX4_argument_82 rfl rfl rfl rfl rfl ?_
            refine y_Vi 81 (M := mX4_refuse) (As := []) (st := []) dX4_argument_83 i6 rfl q1767 q1769 qs13 q371 q1770 rfl hmX4_refuse rfl rfl rfl rfl rfl rfl rfl rfl (k_mono h (fun r9 w10 h => ?_))
            exact y_iret dX4_argument_86 rfl h
      · refine x_aload_n 0 dX4_argument_53 rfl rfl rfl rfl rfl ?_
        refine x_iload_n 1 dX4_argument_54 rfl rfl rfl ?_
        refine y_Vi 127 (M := mX4_application) (As := [(0, a1)]) (st := []) dX4_argument_55 i6 rfl q1776 q1778 qs15 q371 q1779 rfl hmX4_application rfl rfl rfl rfl rfl rfl rfl rfl (k_mono h (fun r11 w12 h => ?_))
        refine x_goto 7 (q := 65) dX4_argument_58 rfl ?_
        refine x_istore_n 2 (ls' := [(2, 6), (0, a1), (0, r11)]) dX4_argument_65 rfl rfl rfl rfl ?_
        refine x_iload_n 2 dX4_argument_66 rfl rfl rfl ?_
        refine x_if_lt (t := 82) 15 dX4_argument_67 rfl rfl (b_ite h (fun hc h => ?_) (fun hc h => ?_))
        · refine x_aload_n 0 dX4_argument_82 rfl rfl rfl rfl rfl ?_
          refine y_Vi 81 (M := mX4_refuse) (As := []) (st := []) dX4_argument_83 i6 rfl q1767 q1769 qs13 q371 q1770 rfl hmX4_refuse rfl rfl rfl rfl rfl rfl rfl rfl (k_mono h (fun r13 w14 h => ?_))
          exact y_iret dX4_argument_86 rfl h
        · refine x_aload_n 0 dX4_argument_70 rfl rfl rfl rfl rfl ?_
          refine y_getF 12 1 (c := 3) (z := 7) dX4_argument_71 i6 rfl in_X4 q651 rfl rfl rfl fn_6_1 (Nat.le_trans (Nat.le_of_ble_eq_true rfl) hn) rfl ?_
          refine y_get 78 2 (c := 4) (z := w12 7 2) dX4_argument_74 i7 rfl in_X5 q603 rfl rfl rfl rfl rfl ?_
          refine x_bipush 41 (z := 41) dX4_argument_77 rfl (by decide) rfl ?_
          refine x_icmp_eq (t := 87) 8 dX4_argument_79 rfl rfl (b_ite h (fun hc h => ?_) (fun hc h => ?_))
          · refine x_aload_n 0 dX4_argument_87 rfl rfl rfl rfl rfl ?_
            refine y_getF 12 1 (c := 3) (z := 7) dX4_argument_88 i6 rfl in_X4 q651 rfl rfl rfl fn_6_1 (Nat.le_trans (Nat.le_of_ble_eq_true rfl) hn) rfl ?_
            refine y_Vv 121 (M := mX5_next) (As := []) (st := []) dX4_argument_91 i7 rfl q1775 q1684 q1685 q372 q1686 rfl hmX5_next rfl rfl rfl rfl rfl rfl rfl (k_mono h (fun r15 w16 h => ?_))
            refine x_iload_n 2 dX4_argument_94 rfl rfl rfl ?_
            exact y_iret dX4_argument_95 rfl h
          · refine x_aload_n 0 dX4_argument_82 rfl rfl rfl rfl rfl ?_
            refine y_Vi 81 (M := mX4_refuse) (As := []) (st := []) dX4_argument_83 i6 rfl q1767 q1769 qs13 q371 q1770 rfl hmX4_refuse rfl rfl rfl rfl rfl rfl rfl rfl (k_mono h (fun r17 w18 h => ?_))
            exact y_iret dX4_argument_86 rfl h
    · refine x_aload_n 0 dX4_argument_29 rfl rfl rfl rfl rfl ?_
      refine x_iload_n 1 dX4_argument_30 rfl rfl rfl ?_
      refine y_Vi 74 (M := mX4_item) (As := [(0, a1)]) (st := []) dX4_argument_31 i6 rfl q1731 q1733 qs11 q371 q1734 rfl hmX4_item rfl rfl rfl rfl rfl rfl rfl rfl (k_mono h (fun r19 w20 h => ?_))
      exact y_iret dX4_argument_34 rfl h
  · refine x_aload_n 0 dX4_argument_11 rfl rfl rfl rfl rfl ?_
    refine x_iload_n 1 dX4_argument_12 rfl rfl rfl ?_
    refine y_Vi 143 (M := mX4_word) (As := [(0, a1)]) (st := []) dX4_argument_13 i6 rfl q1780 q1782 qs16 q371 q1783 rfl hmX4_word rfl rfl rfl rfl rfl rfl rfl rfl (k_mono h (fun r21 w22 h => ?_))
    exact y_iret dX4_argument_16 rfl h
theorem rX4_link {d n : Nat} {w : bW} {Q : Int → bW → Prop} {X : String → bW → Prop} (hn : 143 ≤ n) (a1 : Int) (a2 : Int) (a3 : Int) (h : if a3 < 0 then (Q a3 w) else (if 0 ≤ a2 then ((0 ≤ a2 ∧ a2 < 4096) ∧ ((0 ≤ a1 ∧ a1 < 4096) ∧ (Q a3 (b_up (b_up w 17 a2 a3) 18 a1 (b_i ((w 18 a1) + 1)))))) else ((0 ≤ a1 ∧ a1 < 4096) ∧ ((0 ≤ a1 ∧ a1 < 4096) ∧ (Q a3 (b_up (b_up w 16 a1 a3) 18 a1 (b_i ((w 18 a1) + 1)))))))) : b_K (d + 1) mX4_link [(2, 6), (0, a1), (0, a2), (0, a3)] n w Q X := by
  have i6 := iz6 (Nat.le_trans (Nat.le_of_ble_eq_true rfl) hn)
  have i16 := iz16 (Nat.le_trans (Nat.le_of_ble_eq_true rfl) hn)
  have i17 := iz17 (Nat.le_trans (Nat.le_of_ble_eq_true rfl) hn)
  have i18 := iz18 (Nat.le_trans (Nat.le_of_ble_eq_true rfl) hn)
  refine k_of (by decide) rfl rfl rfl (ls := [(2, 6), (0, a1), (0, a2), (0, a3)]) rfl ?_
  refine x_iload_n 3 dX4_link_0 rfl rfl rfl ?_
  refine x_if_lt (t := 35) 34 dX4_link_1 rfl rfl (b_ite h (fun hc h => ?_) (fun hc h => ?_))
  · refine x_iload_n 3 dX4_link_35 rfl rfl rfl ?_
    exact y_iret dX4_link_36 rfl h
  · refine x_iload_n 2 dX4_link_4 rfl rfl rfl ?_
    refine x_if_ge (t := 18) 13 dX4_link_5 rfl rfl (b_ite h (fun hc h => ?_) (fun hc h => ?_))
    · refine x_aload_n 0 dX4_link_18 rfl rfl rfl rfl rfl ?_
      refine y_getF 50 10 (c := 3) (z := 17) dX4_link_19 i6 rfl in_X4 q676 rfl rfl rfl fn_6_10 (Nat.le_trans (Nat.le_of_ble_eq_true rfl) hn) rfl ?_
      refine x_iload_n 2 dX4_link_22 rfl rfl rfl ?_
      refine x_iload_n 3 dX4_link_23 rfl rfl rfl ?_
      obtain ⟨e1, h⟩ := h
      refine y_iast (x' := a3) dX4_link_24 ⟨4096, i17, e1⟩ rfl rfl ?_
      refine x_aload_n 0 dX4_link_25 rfl rfl rfl rfl rfl ?_
      refine y_getF 53 11 (c := 3) (z := 18) dX4_link_26 i6 rfl in_X4 q680 rfl rfl rfl fn_6_11 (Nat.le_trans (Nat.le_of_ble_eq_true rfl) hn) rfl ?_
      refine x_iload_n 1 dX4_link_29 rfl rfl rfl ?_
      refine x_dup2 dX4_link_30 rfl rfl rfl ?_
      obtain ⟨e2, h⟩ := h
      refine y_iald (z := w 18 a1) dX4_link_31 ⟨4096, i18, e2⟩ rfl rfl ?_
      refine x_iconst 1 (z := 1) dX4_link_32 rfl (by decide) rfl ?_
      refine x_iadd dX4_link_33 rfl ?_
      refine y_iast (x' := b_i ((w 18 a1) + 1)) dX4_link_34 ⟨4096, i18, e2⟩ rfl rfl ?_
      refine x_iload_n 3 dX4_link_35 rfl rfl rfl ?_
      exact y_iret dX4_link_36 rfl h
    · refine x_aload_n 0 dX4_link_8 rfl rfl rfl rfl rfl ?_
      refine y_getF 47 9 (c := 3) (z := 16) dX4_link_9 i6 rfl in_X4 q672 rfl rfl rfl fn_6_9 (Nat.le_trans (Nat.le_of_ble_eq_true rfl) hn) rfl ?_
      refine x_iload_n 1 dX4_link_12 rfl rfl rfl ?_
      refine x_iload_n 3 dX4_link_13 rfl rfl rfl ?_
      obtain ⟨e3, h⟩ := h
      refine y_iast (x' := a3) dX4_link_14 ⟨4096, i16, e3⟩ rfl rfl ?_
      refine x_goto 10 (q := 25) dX4_link_15 rfl ?_
      refine x_aload_n 0 dX4_link_25 rfl rfl rfl rfl rfl ?_
      refine y_getF 53 11 (c := 3) (z := 18) dX4_link_26 i6 rfl in_X4 q680 rfl rfl rfl fn_6_11 (Nat.le_trans (Nat.le_of_ble_eq_true rfl) hn) rfl ?_
      refine x_iload_n 1 dX4_link_29 rfl rfl rfl ?_
      refine x_dup2 dX4_link_30 rfl rfl rfl ?_
      obtain ⟨e4, h⟩ := h
      refine y_iald (z := w 18 a1) dX4_link_31 ⟨4096, i18, e4⟩ rfl rfl ?_
      refine x_iconst 1 (z := 1) dX4_link_32 rfl (by decide) rfl ?_
      refine x_iadd dX4_link_33 rfl ?_
      refine y_iast (x' := b_i ((w 18 a1) + 1)) dX4_link_34 ⟨4096, i18, e4⟩ rfl rfl ?_
      refine x_iload_n 3 dX4_link_35 rfl rfl rfl ?_
      exact y_iret dX4_link_36 rfl h
abbrev LX4_sequence_23 (d n : Nat) (Q : Int → bW → Prop) (X : String → bW → Prop) (a1 : Int) (a2 : Int) (a3 : Int) (w : bW) : Prop := b_Y (d + 1) mX4_sequence n Q X 23 [(2, 6), (0, a1), (0, a2), (0, a3)] [] w
theorem rX4_sequence {d n : Nat} {w : bW} {Q : Int → bW → Prop} {X : String → bW → Prop} (hn : 143 ≤ n) (a1 : Int) (h : b_K d mX4_begin [(2, 6), (0, 7), (0, a1)] n w (fun r1 w2 => if 0 ≤ r1 then (b_K d mX5_next [(2, 7)] n w2 (fun r3 w4 => LX4_sequence_23 d n Q X a1 r1 (-1) w4) X) else (Q (-1) w2)) X) : b_K (d + 1) mX4_sequence [(2, 6), (0, a1)] n w Q X := by
  have i6 := iz6 (Nat.le_trans (Nat.le_of_ble_eq_true rfl) hn)
  have i7 := iz7 (Nat.le_trans (Nat.le_of_ble_eq_true rfl) hn)
  refine k_of (by decide) rfl rfl rfl (ls := [(2, 6), (0, a1), (9, 0), (9, 0)]) rfl ?_
  refine x_aload_n 0 dX4_sequence_0 rfl rfl rfl rfl rfl ?_
  refine x_bipush 7 (z := 7) dX4_sequence_1 rfl (by decide) rfl ?_
  refine x_iload_n 1 dX4_sequence_3 rfl rfl rfl ?_
  refine y_Vi 118 (M := mX4_begin) (As := [(0, 7), (0, a1)]) (st := []) dX4_sequence_4 i6 rfl q1771 q1773 qs14 q371 q1774 rfl hmX4_begin rfl rfl rfl rfl rfl rfl rfl rfl (k_mono h (fun r1 w2 h => ?_))
  refine x_istore_n 2 (ls' := [(2, 6), (0, a1), (0, r1), (9, 0)]) dX4_sequence_7 rfl rfl rfl rfl ?_
  refine x_iload_n 2 dX4_sequence_8 rfl rfl rfl ?_
  refine x_if_ge (t := 14) 5 dX4_sequence_9 rfl rfl (b_ite h (fun hc h => ?_) (fun hc h => ?_))
  · refine x_aload_n 0 dX4_sequence_14 rfl rfl rfl rfl rfl ?_
    refine y_getF 12 1 (c := 3) (z := 7) dX4_sequence_15 i6 rfl in_X4 q651 rfl rfl rfl fn_6_1 (Nat.le_trans (Nat.le_of_ble_eq_true rfl) hn) rfl ?_
    refine y_Vv 121 (M := mX5_next) (As := []) (st := []) dX4_sequence_18 i7 rfl q1775 q1684 q1685 q372 q1686 rfl hmX5_next rfl rfl rfl rfl rfl rfl rfl (k_mono h (fun r3 w4 h => ?_))
    refine x_iconst (-1) (z := (-1)) dX4_sequence_21 rfl (by decide) rfl ?_
    refine x_istore_n 3 (ls' := [(2, 6), (0, a1), (0, r1), (0, (-1))]) dX4_sequence_22 rfl rfl rfl rfl ?_
    exact x_fg (fgk (fgk (fgk (fgk (fg0))))) h
  · refine x_iconst (-1) (z := (-1)) dX4_sequence_12 rfl (by decide) rfl ?_
    exact y_iret dX4_sequence_13 rfl h
theorem sX4_sequence_23 {d n : Nat} {w : bW} {Q : Int → bW → Prop} {X : String → bW → Prop} (hn : 143 ≤ n) (a1 : Int) (a2 : Int) (a3 : Int) (h : if w 7 2 = 125 then ((0 ≤ a2 ∧ a2 < 4096) ∧ (b_K d mX5_next [(2, 7)] n (b_up w 13 a2 (w 7 4)) (fun r2 w3 => Q a2 w3) X)) else (b_K d mX4_item [(2, 6), (0, b_i (a1 + 1))] n w (fun r4 w5 => b_K d mX4_link [(2, 6), (0, a2), (0, a3), (0, r4)] n w5 (fun r6 w7 => if 0 ≤ r6 then (if w7 7 2 ≠ 59 then (if w7 7 2 = 125 then (LX4_sequence_23 d n Q X a1 a2 r6 w7) else (b_K d mX4_refuse [(2, 6)] n w7 (fun r8 w9 => Q r8 w9) X)) else (b_K d mX5_next [(2, 7)] n w7 (fun r10 w11 => LX4_sequence_23 d n Q X a1 a2 r6 w11) X)) else (Q (-1) w7)) X) X)) : LX4_sequence_23 d n Q X a1 a2 a3 w := by
  have i6 := iz6 (Nat.le_trans (Nat.le_of_ble_eq_true rfl) hn)
  have i7 := iz7 (Nat.le_trans (Nat.le_of_ble_eq_true rfl) hn)
  have i13 := iz13 (Nat.le_trans (Nat.le_of_ble_eq_true rfl) hn)
  refine x_aload_n 0 dX4_sequence_23 rfl rfl rfl rfl rfl ?_
  refine y_getF 12 1 (c := 3) (z := 7) dX4_sequence_24 i6 rfl in_X4 q651 rfl rfl rfl fn_6_1 (Nat.le_trans (Nat.le_of_ble_eq_true rfl) hn) rfl ?_
  refine y_get 78 2 (c := 4) (z := w 7 2) dX4_sequence_27 i7 rfl in_X5 q603 rfl rfl rfl rfl rfl ?_
  refine x_bipush 125 (z := 125) dX4_sequence_30 rfl (by decide) rfl ?_
  refine x_icmp_eq (t := 94) 62 dX4_sequence_32 rfl rfl (b_ite h (fun hc h => ?_) (fun hc h => ?_))
  · refine x_aload_n 0 dX4_sequence_94 rfl rfl rfl rfl rfl ?_
    refine y_getF 38 6 (c := 3) (z := 13) dX4_sequence_95 i6 rfl in_X4 q664 rfl rfl rfl fn_6_6 (Nat.le_trans (Nat.le_of_ble_eq_true rfl) hn) rfl ?_
    refine x_iload_n 2 dX4_sequence_98 rfl rfl rfl ?_
    refine x_aload_n 0 dX4_sequence_99 rfl rfl rfl rfl rfl ?_
    refine y_getF 12 1 (c := 3) (z := 7) dX4_sequence_100 i6 rfl in_X4 q651 rfl rfl rfl fn_6_1 (Nat.le_trans (Nat.le_of_ble_eq_true rfl) hn) rfl ?_
    refine y_get 112 4 (c := 4) (z := w 7 4) dX4_sequence_103 i7 rfl in_X5 q608 rfl rfl rfl rfl rfl ?_
    obtain ⟨e1, h⟩ := h
    refine y_iast (x' := w 7 4) dX4_sequence_106 ⟨4096, i13, e1⟩ rfl rfl ?_
    refine x_aload_n 0 dX4_sequence_107 rfl rfl rfl rfl rfl ?_
    refine y_getF 12 1 (c := 3) (z := 7) dX4_sequence_108 i6 rfl in_X4 q651 rfl rfl rfl fn_6_1 (Nat.le_trans (Nat.le_of_ble_eq_true rfl) hn) rfl ?_
    refine y_Vv 121 (M := mX5_next) (As := []) (st := []) dX4_sequence_111 i7 rfl q1775 q1684 q1685 q372 q1686 rfl hmX5_next rfl rfl rfl rfl rfl rfl rfl (k_mono h (fun r2 w3 h => ?_))
    refine x_iload_n 2 dX4_sequence_114 rfl rfl rfl ?_
    exact y_iret dX4_sequence_115 rfl h
  · refine x_aload_n 0 dX4_sequence_35 rfl rfl rfl rfl rfl ?_
    refine x_iload_n 2 dX4_sequence_36 rfl rfl rfl ?_
    refine x_iload_n 3 dX4_sequence_37 rfl rfl rfl ?_
    refine x_aload_n 0 dX4_sequence_38 rfl rfl rfl rfl rfl ?_
    refine x_iload_n 1 dX4_sequence_39 rfl rfl rfl ?_
    refine x_iconst 1 (z := 1) dX4_sequence_40 rfl (by decide) rfl ?_
    refine x_iadd dX4_sequence_41 rfl ?_
    refine y_Vi 74 (M := mX4_item) (As := [(0, b_i (a1 + 1))]) (st := [(0, a3), (0, a2), (2, 6)]) dX4_sequence_42 i6 rfl q1731 q1733 qs11 q371 q1734 rfl hmX4_item rfl rfl rfl rfl rfl rfl rfl rfl (k_mono h (fun r4 w5 h => ?_))
    refine y_Vi 133 (M := mX4_link) (As := [(0, a2), (0, a3), (0, r4)]) (st := []) dX4_sequence_45 i6 rfl q1801 q1803 qs20 q371 q1804 rfl hmX4_link rfl rfl rfl rfl rfl rfl rfl rfl (k_mono h (fun r6 w7 h => ?_))
    refine x_istore_n 3 (ls' := [(2, 6), (0, a1), (0, a2), (0, r6)]) dX4_sequence_48 rfl rfl rfl rfl ?_
    refine x_iload_n 3 dX4_sequence_49 rfl rfl rfl ?_
    refine x_if_ge (t := 55) 5 dX4_sequence_50 rfl rfl (b_ite h (fun hc h => ?_) (fun hc h => ?_))
    · refine x_aload_n 0 dX4_sequence_55 rfl rfl rfl rfl rfl ?_
      refine y_getF 12 1 (c := 3) (z := 7) dX4_sequence_56 i6 rfl in_X4 q651 rfl rfl rfl fn_6_1 (Nat.le_trans (Nat.le_of_ble_eq_true rfl) hn) rfl ?_
      refine y_get 78 2 (c := 4) (z := w7 7 2) dX4_sequence_59 i7 rfl in_X5 q603 rfl rfl rfl rfl rfl ?_
      refine x_bipush 59 (z := 59) dX4_sequence_62 rfl (by decide) rfl ?_
      refine x_icmp_ne (t := 77) 13 dX4_sequence_64 rfl rfl (b_ite h (fun hc h => ?_) (fun hc h => ?_))
      · refine x_aload_n 0 dX4_sequence_77 rfl rfl rfl rfl rfl ?_
        refine y_getF 12 1 (c := 3) (z := 7) dX4_sequence_78 i6 rfl in_X4 q651 rfl rfl rfl fn_6_1 (Nat.le_trans (Nat.le_of_ble_eq_true rfl) hn) rfl ?_
        refine y_get 78 2 (c := 4) (z := w7 7 2) dX4_sequence_81 i7 rfl in_X5 q603 rfl rfl rfl rfl rfl ?_
        refine x_bipush 125 (z := 125) dX4_sequence_84 rfl (by decide) rfl ?_
        refine x_icmp_eq (t := 23) (-63) dX4_sequence_86 rfl rfl (b_ite h (fun hc h => ?_) (fun hc h => ?_))
        · exact x_fg (fgk (fgk (fgk (fgk (fg0))))) h
        · refine x_aload_n 0 dX4_sequence_89 rfl rfl rfl rfl rfl ?_
          refine y_Vi 81 (M := mX4_refuse) (As := []) (st := []) dX4_sequence_90 i6 rfl q1767 q1769 qs13 q371 q1770 rfl hmX4_refuse rfl rfl rfl rfl rfl rfl rfl rfl (k_mono h (fun r8 w9 h => ?_))
          exact y_iret dX4_sequence_93 rfl h
      · refine x_aload_n 0 dX4_sequence_67 rfl rfl rfl rfl rfl ?_
        refine y_getF 12 1 (c := 3) (z := 7) dX4_sequence_68 i6 rfl in_X4 q651 rfl rfl rfl fn_6_1 (Nat.le_trans (Nat.le_of_ble_eq_true rfl) hn) rfl ?_
        refine y_Vv 121 (M := mX5_next) (As := []) (st := []) dX4_sequence_71 i7 rfl q1775 q1684 q1685 q372 q1686 rfl hmX5_next rfl rfl rfl rfl rfl rfl rfl (k_mono h (fun r10 w11 h => ?_))
        refine x_goto (-51) (q := 23) dX4_sequence_74 rfl ?_
        exact x_fg (fgk (fgk (fgk (fgk (fg0))))) h
    · refine x_iconst (-1) (z := (-1)) dX4_sequence_53 rfl (by decide) rfl ?_
      exact y_iret dX4_sequence_54 rfl h
theorem rX4_isSequence {d n : Nat} {w : bW} {Q : Int → bW → Prop} {X : String → bW → Prop} (hn : 143 ≤ n) (a1 : Int) (h : (0 ≤ a1 ∧ a1 < 4096) ∧ (if w 10 a1 ≠ 7 then (Q 0 w) else (Q 1 w))) : b_K (d + 1) mX4_isSequence [(2, 6), (0, a1)] n w Q X := by
  have i6 := iz6 (Nat.le_trans (Nat.le_of_ble_eq_true rfl) hn)
  have i10 := iz10 (Nat.le_trans (Nat.le_of_ble_eq_true rfl) hn)
  refine k_of (by decide) rfl rfl rfl (ls := [(2, 6), (0, a1)]) rfl ?_
  refine x_aload_n 0 dX4_isSequence_0 rfl rfl rfl rfl rfl ?_
  refine y_getF 27 3 (c := 3) (z := 10) dX4_isSequence_1 i6 rfl in_X4 q653 rfl rfl rfl fn_6_3 (Nat.le_trans (Nat.le_of_ble_eq_true rfl) hn) rfl ?_
  refine x_iload_n 1 dX4_isSequence_4 rfl rfl rfl ?_
  obtain ⟨e1, h⟩ := h
  refine y_bald (z := w 10 a1) dX4_isSequence_5 ⟨4096, i10, e1⟩ rfl rfl ?_
  refine x_bipush 7 (z := 7) dX4_isSequence_6 rfl (by decide) rfl ?_
  refine x_icmp_ne (t := 15) 7 dX4_isSequence_8 rfl rfl (b_ite h (fun hc h => ?_) (fun hc h => ?_))
  · refine x_iconst 0 (z := 0) dX4_isSequence_15 rfl (by decide) rfl ?_
    exact y_zret dX4_isSequence_16 rfl (by decide) h
  · refine x_iconst 1 (z := 1) dX4_isSequence_11 rfl (by decide) rfl ?_
    refine x_goto 4 (q := 16) dX4_isSequence_12 rfl ?_
    exact y_zret dX4_isSequence_16 rfl (by decide) h
abbrev LX4_child_10 (d n : Nat) (Q : Int → bW → Prop) (X : String → bW → Prop) (a2 : Int) (a3 : Int) (a4 : Int) (w : bW) : Prop := b_Y (d + 1) mX4_child n Q X 10 [(2, 6), (9, 0), (0, a2), (0, a3), (0, a4)] [] w
theorem rX4_child {d n : Nat} {w : bW} {Q : Int → bW → Prop} {X : String → bW → Prop} (hn : 143 ≤ n) (a1 : Int) (a2 : Int) (h : (0 ≤ a1 ∧ a1 < 4096) ∧ (LX4_child_10 d n Q X a2 (w 16 a1) 0 w)) : b_K (d + 1) mX4_child [(2, 6), (0, a1), (0, a2)] n w Q X := by
  have i6 := iz6 (Nat.le_trans (Nat.le_of_ble_eq_true rfl) hn)
  have i16 := iz16 (Nat.le_trans (Nat.le_of_ble_eq_true rfl) hn)
  refine k_of (by decide) rfl rfl rfl (ls := [(2, 6), (0, a1), (0, a2), (9, 0), (9, 0)]) rfl ?_
  refine x_aload_n 0 dX4_child_0 rfl rfl rfl rfl rfl ?_
  refine y_getF 47 9 (c := 3) (z := 16) dX4_child_1 i6 rfl in_X4 q672 rfl rfl rfl fn_6_9 (Nat.le_trans (Nat.le_of_ble_eq_true rfl) hn) rfl ?_
  refine x_iload_n 1 dX4_child_4 rfl rfl rfl ?_
  obtain ⟨e1, h⟩ := h
  refine y_iald (z := w 16 a1) dX4_child_5 ⟨4096, i16, e1⟩ rfl rfl ?_
  refine x_istore_n 3 (ls' := [(2, 6), (0, a1), (0, a2), (0, w 16 a1), (9, 0)]) dX4_child_6 rfl rfl rfl rfl ?_
  refine x_iconst 0 (z := 0) dX4_child_7 rfl (by decide) rfl ?_
  refine x_istore 4 (ls' := [(2, 6), (0, a1), (0, a2), (0, w 16 a1), (0, 0)]) dX4_child_8 rfl rfl rfl ?_
  exact x_fg (fgk (fgd (fgk (fgk (fgk (fg0)))))) h
theorem sX4_child_10 {d n : Nat} {w : bW} {Q : Int → bW → Prop} {X : String → bW → Prop} (hn : 143 ≤ n) (a2 : Int) (a3 : Int) (a4 : Int) (h : if a2 ≤ a4 then (Q a3 w) else ((0 ≤ a3 ∧ a3 < 4096) ∧ (LX4_child_10 d n Q X a2 (w 17 a3) (b_i (a4 + 1)) w))) : LX4_child_10 d n Q X a2 a3 a4 w := by
  have i6 := iz6 (Nat.le_trans (Nat.le_of_ble_eq_true rfl) hn)
  have i17 := iz17 (Nat.le_trans (Nat.le_of_ble_eq_true rfl) hn)
  refine x_iload 4 dX4_child_10 rfl rfl ?_
  refine x_iload_n 2 dX4_child_12 rfl rfl rfl ?_
  refine x_icmp_ge (t := 29) 16 dX4_child_13 rfl rfl (b_ite h (fun hc h => ?_) (fun hc h => ?_))
  · refine x_iload_n 3 dX4_child_29 rfl rfl rfl ?_
    exact y_iret dX4_child_30 rfl h
  · refine x_aload_n 0 dX4_child_16 rfl rfl rfl rfl rfl ?_
    refine y_getF 50 10 (c := 3) (z := 17) dX4_child_17 i6 rfl in_X4 q676 rfl rfl rfl fn_6_10 (Nat.le_trans (Nat.le_of_ble_eq_true rfl) hn) rfl ?_
    refine x_iload_n 3 dX4_child_20 rfl rfl rfl ?_
    obtain ⟨e1, h⟩ := h
    refine y_iald (z := w 17 a3) dX4_child_21 ⟨4096, i17, e1⟩ rfl rfl ?_
    refine x_istore_n 3 (ls' := [(2, 6), (9, 0), (0, a2), (0, w 17 a3), (0, a4)]) dX4_child_22 rfl rfl rfl rfl ?_
    refine x_iinc 4 1 (ls' := [(2, 6), (9, 0), (0, a2), (0, w 17 a3), (0, b_i (a4 + 1))]) dX4_child_23 rfl rfl rfl rfl ?_
    refine x_goto (-16) (q := 10) dX4_child_26 rfl ?_
    exact x_fg (fgk (fgk (fgk (fgk (fgk (fg0)))))) h
theorem rX4_isBare {d n : Nat} {w : bW} {Q : Int → bW → Prop} {X : String → bW → Prop} (hn : 143 ≤ n) (a1 : Int) (a2 : Int) (a3 : Int) (h : b_K d mX4_is [(2, 6), (0, a1), (0, a2), (0, a3)] n w (fun r1 w2 => if r1 = 0 then (Q 0 w2) else ((0 ≤ a1 ∧ a1 < 4096) ∧ (if w2 14 a1 ≠ 0 then (Q 0 w2) else (Q 1 w2)))) X) : b_K (d + 1) mX4_isBare [(2, 6), (0, a1), (0, a2), (0, a3)] n w Q X := by
  have i6 := iz6 (Nat.le_trans (Nat.le_of_ble_eq_true rfl) hn)
  have i14 := iz14 (Nat.le_trans (Nat.le_of_ble_eq_true rfl) hn)
  refine k_of (by decide) rfl rfl rfl (ls := [(2, 6), (0, a1), (0, a2), (0, a3)]) rfl ?_
  refine x_aload_n 0 dX4_isBare_0 rfl rfl rfl rfl rfl ?_
  refine x_iload_n 1 dX4_isBare_1 rfl rfl rfl ?_
  refine x_iload_n 2 dX4_isBare_2 rfl rfl rfl ?_
  refine x_iload_n 3 dX4_isBare_3 rfl rfl rfl ?_
  refine y_Vi 152 (M := mX4_is) (As := [(0, a1), (0, a2), (0, a3)]) (st := []) dX4_isBare_4 i6 rfl q1841 q1842 q1843 q371 q1844 rfl hmX4_is rfl rfl rfl rfl rfl rfl rfl rfl (k_mono h (fun r1 w2 h => ?_))
  refine x_if_eq (t := 23) 16 dX4_isBare_7 rfl rfl (b_ite h (fun hc h => ?_) (fun hc h => ?_))
  · refine x_iconst 0 (z := 0) dX4_isBare_23 rfl (by decide) rfl ?_
    exact y_zret dX4_isBare_24 rfl (by decide) h
  · refine x_aload_n 0 dX4_isBare_10 rfl rfl rfl rfl rfl ?_
    refine y_getF 41 7 (c := 3) (z := 14) dX4_isBare_11 i6 rfl in_X4 q667 rfl rfl rfl fn_6_7 (Nat.le_trans (Nat.le_of_ble_eq_true rfl) hn) rfl ?_
    refine x_iload_n 1 dX4_isBare_14 rfl rfl rfl ?_
    obtain ⟨e3, h⟩ := h
    refine y_iald (z := w2 14 a1) dX4_isBare_15 ⟨4096, i14, e3⟩ rfl rfl ?_
    refine x_if_ne (t := 23) 7 dX4_isBare_16 rfl rfl (b_ite h (fun hc h => ?_) (fun hc h => ?_))
    · refine x_iconst 0 (z := 0) dX4_isBare_23 rfl (by decide) rfl ?_
      exact y_zret dX4_isBare_24 rfl (by decide) h
    · refine x_iconst 1 (z := 1) dX4_isBare_19 rfl (by decide) rfl ?_
      refine x_goto 4 (q := 24) dX4_isBare_20 rfl ?_
      exact y_zret dX4_isBare_24 rfl (by decide) h
theorem rX4_is {d n : Nat} {w : bW} {Q : Int → bW → Prop} {X : String → bW → Prop} (hn : 143 ≤ n) (a1 : Int) (a2 : Int) (a3 : Int) (h : (0 ≤ a1 ∧ a1 < 4096) ∧ (if w 10 a1 ≠ 8 then (Q 0 w) else ((0 ≤ a1 ∧ a1 < 4096) ∧ (if w 11 a1 ≠ a2 then (Q 0 w) else ((0 ≤ a1 ∧ a1 < 4096) ∧ (if w 18 a1 ≠ a3 then (Q 0 w) else (Q 1 w))))))) : b_K (d + 1) mX4_is [(2, 6), (0, a1), (0, a2), (0, a3)] n w Q X := by
  have i6 := iz6 (Nat.le_trans (Nat.le_of_ble_eq_true rfl) hn)
  have i10 := iz10 (Nat.le_trans (Nat.le_of_ble_eq_true rfl) hn)
  have i11 := iz11 (Nat.le_trans (Nat.le_of_ble_eq_true rfl) hn)
  have i18 := iz18 (Nat.le_trans (Nat.le_of_ble_eq_true rfl) hn)
  refine k_of (by decide) rfl rfl rfl (ls := [(2, 6), (0, a1), (0, a2), (0, a3)]) rfl ?_
  refine x_aload_n 0 dX4_is_0 rfl rfl rfl rfl rfl ?_
  refine y_getF 27 3 (c := 3) (z := 10) dX4_is_1 i6 rfl in_X4 q653 rfl rfl rfl fn_6_3 (Nat.le_trans (Nat.le_of_ble_eq_true rfl) hn) rfl ?_
  refine x_iload_n 1 dX4_is_4 rfl rfl rfl ?_
  obtain ⟨e1, h⟩ := h
  refine y_bald (z := w 10 a1) dX4_is_5 ⟨4096, i10, e1⟩ rfl rfl ?_
  refine x_bipush 8 (z := 8) dX4_is_6 rfl (by decide) rfl ?_
  refine x_icmp_ne (t := 35) 27 dX4_is_8 rfl rfl (b_ite h (fun hc h => ?_) (fun hc h => ?_))
  · refine x_iconst 0 (z := 0) dX4_is_35 rfl (by decide) rfl ?_
    exact y_zret dX4_is_36 rfl (by decide) h
  · refine x_aload_n 0 dX4_is_11 rfl rfl rfl rfl rfl ?_
    refine y_getF 31 4 (c := 3) (z := 11) dX4_is_12 i6 rfl in_X4 q657 rfl rfl rfl fn_6_4 (Nat.le_trans (Nat.le_of_ble_eq_true rfl) hn) rfl ?_
    refine x_iload_n 1 dX4_is_15 rfl rfl rfl ?_
    obtain ⟨e2, h⟩ := h
    refine y_bald (z := w 11 a1) dX4_is_16 ⟨4096, i11, e2⟩ rfl rfl ?_
    refine x_iload_n 2 dX4_is_17 rfl rfl rfl ?_
    refine x_icmp_ne (t := 35) 17 dX4_is_18 rfl rfl (b_ite h (fun hc h => ?_) (fun hc h => ?_))
    · refine x_iconst 0 (z := 0) dX4_is_35 rfl (by decide) rfl ?_
      exact y_zret dX4_is_36 rfl (by decide) h
    · refine x_aload_n 0 dX4_is_21 rfl rfl rfl rfl rfl ?_
      refine y_getF 53 11 (c := 3) (z := 18) dX4_is_22 i6 rfl in_X4 q680 rfl rfl rfl fn_6_11 (Nat.le_trans (Nat.le_of_ble_eq_true rfl) hn) rfl ?_
      refine x_iload_n 1 dX4_is_25 rfl rfl rfl ?_
      obtain ⟨e3, h⟩ := h
      refine y_iald (z := w 18 a1) dX4_is_26 ⟨4096, i18, e3⟩ rfl rfl ?_
      refine x_iload_n 3 dX4_is_27 rfl rfl rfl ?_
      refine x_icmp_ne (t := 35) 7 dX4_is_28 rfl rfl (b_ite h (fun hc h => ?_) (fun hc h => ?_))
      · refine x_iconst 0 (z := 0) dX4_is_35 rfl (by decide) rfl ?_
        exact y_zret dX4_is_36 rfl (by decide) h
      · refine x_iconst 1 (z := 1) dX4_is_31 rfl (by decide) rfl ?_
        refine x_goto 4 (q := 36) dX4_is_32 rfl ?_
        exact y_zret dX4_is_36 rfl (by decide) h
theorem rX4_text {d n : Nat} {w : bW} {Q : Int → bW → Prop} {X : String → bW → Prop} (hn : 143 ≤ n) (h : Q (w 7 0) w) : b_K (d + 1) mX4_text [(2, 6)] n w Q X := by
  have i6 := iz6 (Nat.le_trans (Nat.le_of_ble_eq_true rfl) hn)
  have i7 := iz7 (Nat.le_trans (Nat.le_of_ble_eq_true rfl) hn)
  refine k_of (by decide) rfl rfl rfl (ls := [(2, 6)]) rfl ?_
  refine x_aload_n 0 dX4_text_0 rfl rfl rfl rfl rfl ?_
  refine y_getF 12 1 (c := 3) (z := 7) dX4_text_1 i6 rfl in_X4 q651 rfl rfl rfl fn_6_1 (Nat.le_trans (Nat.le_of_ble_eq_true rfl) hn) rfl ?_
  refine y_get 60 0 (c := 4) (z := w 7 0) dX4_text_4 i7 rfl in_X5 q601 rfl rfl rfl rfl rfl ?_
  exact y_aret dX4_text_7 rfl (Or.inr ⟨_, rfl⟩) h
abbrev LX4_size_4 (d n : Nat) (Q : Int → bW → Prop) (X : String → bW → Prop) (a1 : Int) (a2 : Int) (a3 : Int) (w : bW) : Prop := b_Y (d + 1) mX4_size n Q X 4 [(2, 6), (0, a1), (0, a2), (0, a3)] [] w
abbrev LX4_size_17 (d n : Nat) (Q : Int → bW → Prop) (X : String → bW → Prop) (a1 : Int) (a2 : Int) (a3 : Int) (w : bW) : Prop := b_Y (d + 1) mX4_size n Q X 17 [(2, 6), (0, a1), (0, a2), (0, a3)] [] w
theorem rX4_size {d n : Nat} {w : bW} {Q : Int → bW → Prop} {X : String → bW → Prop} (hn : 143 ≤ n) (a1 : Int) (h : LX4_size_4 d n Q X a1 a1 a1 w) : b_K (d + 1) mX4_size [(2, 6), (0, a1)] n w Q X := by
  refine k_of (by decide) rfl rfl rfl (ls := [(2, 6), (0, a1), (9, 0), (9, 0)]) rfl ?_
  refine x_iload_n 1 dX4_size_0 rfl rfl rfl ?_
  refine x_istore_n 2 (ls' := [(2, 6), (0, a1), (0, a1), (9, 0)]) dX4_size_1 rfl rfl rfl rfl ?_
  refine x_iload_n 1 dX4_size_2 rfl rfl rfl ?_
  refine x_istore_n 3 (ls' := [(2, 6), (0, a1), (0, a1), (0, a1)]) dX4_size_3 rfl rfl rfl rfl ?_
  exact x_fg (fgk (fgk (fgk (fgk (fg0))))) h
theorem sX4_size_4 {d n : Nat} {w : bW} {Q : Int → bW → Prop} {X : String → bW → Prop} (hn : 143 ≤ n) (a1 : Int) (a2 : Int) (a3 : Int) (h : if a3 < 0 then (Q (b_i ((b_i (a2 - a1)) + 1)) w) else ((0 ≤ a3 ∧ a3 < 4096) ∧ (LX4_size_17 d n Q X a1 a3 (w 16 a3) w))) : LX4_size_4 d n Q X a1 a2 a3 w := by
  have i6 := iz6 (Nat.le_trans (Nat.le_of_ble_eq_true rfl) hn)
  have i16 := iz16 (Nat.le_trans (Nat.le_of_ble_eq_true rfl) hn)
  refine x_iload_n 3 dX4_size_4 rfl rfl rfl ?_
  refine x_if_lt (t := 40) 35 dX4_size_5 rfl rfl (b_ite h (fun hc h => ?_) (fun hc h => ?_))
  · refine x_iload_n 2 dX4_size_40 rfl rfl rfl ?_
    refine x_iload_n 1 dX4_size_41 rfl rfl rfl ?_
    refine x_isub dX4_size_42 rfl ?_
    refine x_iconst 1 (z := 1) dX4_size_43 rfl (by decide) rfl ?_
    refine x_iadd dX4_size_44 rfl ?_
    exact y_iret dX4_size_45 rfl h
  · refine x_iload_n 3 dX4_size_8 rfl rfl rfl ?_
    refine x_istore_n 2 (ls' := [(2, 6), (0, a1), (0, a3), (0, a3)]) dX4_size_9 rfl rfl rfl rfl ?_
    refine x_aload_n 0 dX4_size_10 rfl rfl rfl rfl rfl ?_
    refine y_getF 47 9 (c := 3) (z := 16) dX4_size_11 i6 rfl in_X4 q672 rfl rfl rfl fn_6_9 (Nat.le_trans (Nat.le_of_ble_eq_true rfl) hn) rfl ?_
    refine x_iload_n 3 dX4_size_14 rfl rfl rfl ?_
    obtain ⟨e1, h⟩ := h
    refine y_iald (z := w 16 a3) dX4_size_15 ⟨4096, i16, e1⟩ rfl rfl ?_
    refine x_istore_n 3 (ls' := [(2, 6), (0, a1), (0, a3), (0, w 16 a3)]) dX4_size_16 rfl rfl rfl rfl ?_
    exact x_fg (fgk (fgk (fgk (fgk (fg0))))) h
theorem sX4_size_17 {d n : Nat} {w : bW} {Q : Int → bW → Prop} {X : String → bW → Prop} (hn : 143 ≤ n) (a1 : Int) (a2 : Int) (a3 : Int) (h : if a3 < 0 then (LX4_size_4 d n Q X a1 a2 a3 w) else ((0 ≤ a3 ∧ a3 < 4096) ∧ (if w 17 a3 < 0 then (LX4_size_4 d n Q X a1 a2 a3 w) else (LX4_size_17 d n Q X a1 a2 (w 17 a3) w)))) : LX4_size_17 d n Q X a1 a2 a3 w := by
  have i6 := iz6 (Nat.le_trans (Nat.le_of_ble_eq_true rfl) hn)
  have i17 := iz17 (Nat.le_trans (Nat.le_of_ble_eq_true rfl) hn)
  refine x_iload_n 3 dX4_size_17 rfl rfl rfl ?_
  refine x_if_lt (t := 4) (-14) dX4_size_18 rfl rfl (b_ite h (fun hc h => ?_) (fun hc h => ?_))
  · exact x_fg (fgk (fgk (fgk (fgk (fg0))))) h
  · refine x_aload_n 0 dX4_size_21 rfl rfl rfl rfl rfl ?_
    refine y_getF 50 10 (c := 3) (z := 17) dX4_size_22 i6 rfl in_X4 q676 rfl rfl rfl fn_6_10 (Nat.le_trans (Nat.le_of_ble_eq_true rfl) hn) rfl ?_
    refine x_iload_n 3 dX4_size_25 rfl rfl rfl ?_
    obtain ⟨e1, h⟩ := h
    refine y_iald (z := w 17 a3) dX4_size_26 ⟨4096, i17, e1⟩ rfl rfl ?_
    refine x_if_lt (t := 4) (-23) dX4_size_27 rfl rfl (b_ite h (fun hc h => ?_) (fun hc h => ?_))
    · exact x_fg (fgk (fgk (fgk (fgk (fg0))))) h
    · refine x_aload_n 0 dX4_size_30 rfl rfl rfl rfl rfl ?_
      refine y_getF 50 10 (c := 3) (z := 17) dX4_size_31 i6 rfl in_X4 q676 rfl rfl rfl fn_6_10 (Nat.le_trans (Nat.le_of_ble_eq_true rfl) hn) rfl ?_
      refine x_iload_n 3 dX4_size_34 rfl rfl rfl ?_
      refine y_iald (z := w 17 a3) dX4_size_35 ⟨4096, i17, e1⟩ rfl rfl ?_
      refine x_istore_n 3 (ls' := [(2, 6), (0, a1), (0, a2), (0, w 17 a3)]) dX4_size_36 rfl rfl rfl rfl ?_
      refine x_goto (-20) (q := 17) dX4_size_37 rfl ?_
      exact x_fg (fgk (fgk (fgk (fgk (fg0))))) h
end RulesX4
